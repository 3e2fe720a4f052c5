section
theorem pk_us {f : Nat → Int32} {k : Nat} {x : Int32} : upd f k x k = x := if_pos rfl
theorem pk_un {f : Nat → Int32} {k j : Nat} {x : Int32} (h : j ≠ k) : upd f k x j = f j := if_neg h
theorem pk_sub {a b : Nat} (h : b ≤ a) : nI a - nI b = nI (a - b) := by
  obtain ⟨c, rfl⟩ : ∃ c, a = c + b := ⟨a - b, by omega⟩
  rw [← nI_add, Int32.add_sub_cancel, Nat.add_sub_cancel]
theorem pk_m1 (n : Nat) : nI (n + 1) + (-1) = nI n := by
  rw [← nI_1, Int32.add_assoc, show (1 : Int32) + (-1) = 0 from rfl, Int32.add_zero]
theorem pk_mul (a b : Nat) : nI a * nI b = nI (a * b) := (Int32.ofNat_mul a b).symm
theorem pk_sub_toInt {a b : Nat} (ha : a < 2 ^ 30) (hb : b < 2 ^ 30) : (nI a - nI b).toInt = (a : Int) - b := by
  rw [Int32.toInt_sub, nI_toInt (by omega), nI_toInt (by omega)]
  exact Int.bmod_eq_of_le (by omega) (by omega)
theorem pk_sneg {a b : Nat} (hb : b < 2 ^ 30) (h : a < b) : nI a - nI b < 0 := by
  rw [Int32.lt_iff_toInt_lt, pk_sub_toInt (by omega) hb, show (0 : Int32).toInt = 0 from by decide]
  omega
theorem pk_ix (x : Int32) {n : Nat} (hn : n < 2 ^ 31) : x < 0 ∨ nI n ≤ x ∨ ∃ j : Nat, j < n ∧ x = nI j := by
  by_cases h : x < 0
  · exact Or.inl h
  · obtain ⟨j, hj, rfl⟩ := nI_of h
    by_cases h2 : j < n
    · exact Or.inr (Or.inr ⟨j, h2, rfl⟩)
    · exact Or.inr (Or.inl (nI_le (by omega) hj))
theorem pk_le {x y : Int32} {A B : Prop} (a b : Nat) (f : a ≤ b → A) (g : b < a → B) (hx : x = nI a := by rfl) (hy : y = nI b := by rfl) (ha : a < 2 ^ 31 := by omega) (hb : b < 2 ^ 31 := by omega) : (x ≤ y → A) ∧ (¬ x ≤ y → B) := by
  subst hx hy
  rw [nI_leI ha hb]
  exact ⟨f, fun z => g (by omega)⟩
theorem pk_lt {x y : Int32} {A B : Prop} (a b : Nat) (f : a < b → A) (g : b ≤ a → B) (hx : x = nI a := by rfl) (hy : y = nI b := by rfl) (ha : a < 2 ^ 31 := by omega) (hb : b < 2 ^ 31 := by omega) : (x < y → A) ∧ (¬ x < y → B) := by
  subst hx hy
  rw [nI_ltI ha hb]
  exact ⟨f, fun z => g (by omega)⟩
theorem pk_eq {x y : Int32} {A B : Prop} (a b : Nat) (f : a = b → A) (g : a ≠ b → B) (hx : x = nI a := by rfl) (hy : y = nI b := by rfl) (ha : a < 2 ^ 31 := by omega) (hb : b < 2 ^ 31 := by omega) : (x = y → A) ∧ (¬ x = y → B) := by
  subst hx hy
  rw [nI_eq ha hb]
  exact ⟨f, g⟩
theorem pk_in {x : Int32} (n N : Nat) (h : n < N) (hx : x = nI n := by rfl) (hN : N < 2 ^ 31 := by omega) : vp_in x N := by
  subst hx
  exact vp_in_nI h hN
theorem pk_cl {x : Int32} (n : Nat) (hx : x = nI n := by rfl) (h : n < 2 ^ 31 := by omega) : x.toNatClampNeg = n := by
  subst hx
  exact nI_clamp h
theorem pk_tn {n : Nat} (h : n < 2 ^ 32) : (nI n).toBitVec.toNat = n := Nat.mod_eq_of_lt h
theorem pk_and (x : Int32) {m : Int32} (k : Nat) (hm : m.toBitVec.toNat = 2 ^ k - 1) : x &&& m = nI (x.toBitVec.toNat % 2 ^ k) := by
  apply Int32.toBitVec_inj.mp
  apply BitVec.eq_of_toNat_eq
  rw [Int32.toBitVec_and, BitVec.toNat_and, hm, Nat.and_two_pow_sub_one_eq_mod]
  show _ = (BitVec.ofNat 32 _).toNat
  rw [BitVec.toNat_ofNat]
  exact (Nat.mod_eq_of_lt (Nat.lt_of_le_of_lt (Nat.mod_le _ _) x.toBitVec.isLt)).symm
theorem pk_andN {n : Nat} (h : n < 2 ^ 32) {m : Int32} (k : Nat) (hm : m.toBitVec.toNat = 2 ^ k - 1) : nI n &&& m = nI (n % 2 ^ k) := by
  rw [pk_and _ k hm, pk_tn h]
theorem pk_andE (x : Int32) {m : Int32} (k : Nat) (hm : m.toBitVec.toNat = 2 ^ k - 1) : ∃ j : Nat, j < 2 ^ k ∧ x &&& m = nI j := ⟨_, Nat.mod_lt _ (Nat.two_pow_pos k), pk_and x k hm⟩
theorem pk_andIn (x : Int32) {m : Int32} (k : Nat) (hm : m.toBitVec.toNat = 2 ^ k - 1) (hk : k ≤ 30) : vp_in (x &&& m) (2 ^ k) := by
  obtain ⟨j, hj, e⟩ := pk_andE x k hm
  rw [e]
  exact vp_in_nI hj (Nat.lt_of_le_of_lt (Nat.pow_le_pow_right (by decide) hk) (by decide))
theorem pk_shl (a s : Int32) (k : Nat) (hs : (s.toBitVec.smod 32).toNat = k) : (a <<< s).toBitVec.toNat = a.toBitVec.toNat * 2 ^ k % 2 ^ 32 := by
  show (a.toBitVec <<< (s.toBitVec.smod 32).toNat).toNat = _
  rw [hs, BitVec.toNat_shiftLeft, Nat.shiftLeft_eq]
theorem pk_shlN {n : Nat} (s : Int32) (k : Nat) (hs : (s.toBitVec.smod 32).toNat = k) (h : n * 2 ^ k < 2 ^ 32) : nI n <<< s = nI (n * 2 ^ k) := by
  apply Int32.toBitVec_inj.mp
  apply BitVec.eq_of_toNat_eq
  have hn : n < 2 ^ 32 := Nat.lt_of_le_of_lt (Nat.le_mul_of_pos_right n (Nat.two_pow_pos k)) h
  rw [pk_shl _ _ k hs, pk_tn hn, pk_tn h, Nat.mod_eq_of_lt h]
theorem pk_shr (a s : Int32) (k : Nat) (hs : (s.toBitVec.smod 32).toNat = k) : (a >>> s).toInt = a.toInt >>> k := by
  show (a.toBitVec.sshiftRight (s.toBitVec.smod 32).toNat).toInt = _
  rw [hs, BitVec.toInt_sshiftRight]
  rfl
theorem pk_shrN {n : Nat} (h : n < 2 ^ 31) (s : Int32) (k : Nat) (hs : (s.toBitVec.smod 32).toNat = k) : nI n >>> s = nI (n / 2 ^ k) := by
  apply Int32.toInt_inj.mp
  have h2 : n / 2 ^ k ≤ n := Nat.div_le_self _ _
  rw [pk_shr _ _ k hs, nI_toInt h, nI_toInt (by omega), Int.shiftRight_eq_div_pow]
  rfl
def bt (x : Int32) (i : Nat) : Bool := x.toBitVec.getLsbD i
theorem b_ext {x y : Int32} (h : ∀ i, i < 32 → bt x i = bt y i) : x = y := Int32.toBitVec_inj.mp (BitVec.eq_of_getLsbD_eq (fun i hi => h i hi))
theorem b_or (x y : Int32) (i : Nat) : bt (x ||| y) i = (bt x i || bt y i) := by unfold bt; rw [Int32.toBitVec_or, BitVec.getLsbD_or]
theorem b_and (x y : Int32) (i : Nat) : bt (x &&& y) i = (bt x i && bt y i) := by unfold bt; rw [Int32.toBitVec_and, BitVec.getLsbD_and]
theorem b_big {x : Int32} {i : Nat} (h : 32 ≤ i) : bt x i = false := BitVec.getLsbD_of_ge _ _ h
theorem b_m1 : ∀ i, i < 32 → bt (-1) i = true := by decide +kernel
theorem b_0 (i : Nat) : bt 0 i = false := BitVec.getLsbD_zero
theorem s_l : ∀ n, n < 32 → ((nI n &&& 31).toBitVec.smod 32).toNat = n := by decide +kernel
theorem b_sshr (n : Nat) (hn : n < 32) (x : Int32) {i : Nat} (hi : i < 32) : bt (x >>> (nI n &&& 31)) i = if n + i < 32 then bt x (n + i) else bt x 31 := by
  unfold bt
  rw [Int32.toBitVec_shiftRight]
  show (x.toBitVec.sshiftRight ((nI n &&& 31).toBitVec.smod 32).toNat).getLsbD i = _
  rw [s_l n hn, BitVec.getLsbD_sshiftRight, BitVec.msb_eq_getLsbD_last]
  simp [hi]
end
section
/-! ===== small numbers, block stores, packed cells ===== -/
theorem ix_12x (j i : Nat) : nI j * 12 + nI i = nI (12 * j + i) := by
  show nI j * nI 12 + nI i = _
  rw [pk_mul, nI_add, Nat.mul_comm]
theorem ix_12y (j i : Nat) : 12 * nI j + nI i = nI (12 * j + i) := by
  show nI 12 * nI j + nI i = _
  rw [pk_mul, nI_add]
theorem ix_6x (j i : Nat) : nI j * 6 + nI i = nI (6 * j + i) := by
  show nI j * nI 6 + nI i = _
  rw [pk_mul, nI_add, Nat.mul_comm]
theorem ix_6y (j i : Nat) : 6 * nI j + nI i = nI (6 * j + i) := by
  show nI 6 * nI j + nI i = _
  rw [pk_mul, nI_add]
theorem ix_36 (j i : Nat) : 36 + 6 * nI j + nI i = nI (36 + (6 * j + i)) := by
  show nI 36 + nI 6 * nI j + nI i = _
  rw [pk_mul, nI_add, nI_add, Nat.add_assoc]
theorem ix_2 (q : Nat) : 2 * nI q = nI (2 * q) := pk_mul 2 q
theorem ix_5 (p : Nat) : 5 * nI p = nI (5 * p) := pk_mul 5 p
theorem ix_l (a : Nat) (b : Nat) : nI a + nI b = nI (a + b) := nI_add a b
theorem ix_m1 : ∀ c, c < 25 → ¬ nI c = -1 := by decide +kernel
theorem ix_m1g {c : Nat} (h : c < 2 ^ 31) : ¬ nI c = -1 := by
  intro e
  have h1 := congrArg Int32.toInt e
  rw [nI_toInt h, show (-1 : Int32).toInt = -1 from by decide] at h1
  omega
/-- the block lo .. hi of s over b -/
def cp_f (s b : Nat → Int32) (lo hi : Nat) : Nat → Int32 := fun t => if lo ≤ t ∧ t < hi then s t else b t
theorem cp_e (s b : Nat → Int32) (lo : Nat) : cp_f s b lo lo = b := by
  funext t
  unfold cp_f
  rw [if_neg (by omega)]
theorem cp_s {s b : Nat → Int32} {lo hi : Nat} (h : lo < hi) : cp_f s (upd b lo (s lo)) (lo + 1) hi = cp_f s b lo hi := by
  funext t
  unfold cp_f upd
  by_cases h1 : t = lo
  · subst h1
    rw [if_neg (by omega), if_pos rfl, if_pos (by omega)]
  · by_cases h2 : lo + 1 ≤ t ∧ t < hi
    · rw [if_pos h2, if_pos (by omega)]
    · rw [if_neg h2, if_neg h1, if_neg (by omega)]
theorem cp_in {s b : Nat → Int32} {lo hi t : Nat} (h1 : lo ≤ t) (h2 : t < hi) : cp_f s b lo hi t = s t := if_pos ⟨h1, h2⟩
theorem cp_out {s b : Nat → Int32} {lo hi t : Nat} (h : t < lo ∨ hi ≤ t) : cp_f s b lo hi t = b t := if_neg (by omega)
theorem up_same (a : Nat → Int32) (k : Nat) : upd a k (a k) = a := by
  funext t
  unfold upd
  by_cases h : t = k
  · subst h; rw [if_pos rfl]
  · rw [if_neg h]
theorem up_back (a : Nat → Int32) (k : Nat) (x : Int32) : upd (upd a k x) k (a k) = a := by
  funext t
  unfold upd
  by_cases h : t = k
  · subst h; rw [if_pos rfl]
  · rw [if_neg h, if_neg h]
/-! the five parts of a packed cell, as the component reads and writes them -/
def cl_cn (v : Int32) : Int32 := v &&& 127
def cl_ow (v : Int32) : Int32 := ((v >>> ((7 : Int32) &&& 31)) &&& 7) - 1
def cl_sh (v : Int32) : Int32 := (v >>> ((10 : Int32) &&& 31)) &&& 127
def cl_cf (v : Int32) : Int32 := (v >>> ((17 : Int32) &&& 31)) &&& 1
def cl_pe (v : Int32) : Int32 := (v >>> ((18 : Int32) &&& 31)) &&& 127
def cl_mk (c o s f d : Int32) : Int32 := (((c ||| ((o + 1) <<< ((7 : Int32) &&& 31))) ||| (s <<< ((10 : Int32) &&& 31))) ||| (f <<< ((17 : Int32) &&& 31))) ||| (d <<< ((18 : Int32) &&& 31))
def cl_wc (v c : Int32) : Int32 := (v &&& (-128)) ||| c
theorem cl_cnE (v : Int32) : ∃ j : Nat, j < 128 ∧ cl_cn v = nI j := pk_andE v (m := 127) 7 (by decide)
theorem cl_owE (v : Int32) : ∃ j : Nat, j < 8 ∧ cl_ow v = nI j - 1 := by
  obtain ⟨j, hj, e⟩ := pk_andE (v >>> ((7 : Int32) &&& 31)) (m := 7) 3 (by decide)
  exact ⟨j, hj, by unfold cl_ow; rw [e]⟩
theorem cl_shE (v : Int32) : ∃ j : Nat, j < 128 ∧ cl_sh v = nI j := pk_andE (v >>> ((10 : Int32) &&& 31)) (m := 127) 7 (by decide)
theorem cl_cfE (v : Int32) : ∃ j : Nat, j < 2 ∧ cl_cf v = nI j := pk_andE (v >>> ((17 : Int32) &&& 31)) (m := 1) 1 (by decide)
theorem cl_peE (v : Int32) : ∃ j : Nat, j < 128 ∧ cl_pe v = nI j := pk_andE (v >>> ((18 : Int32) &&& 31)) (m := 127) 7 (by decide)
theorem cl_cf01 (v : Int32) : cl_cf v = 0 ∨ cl_cf v = 1 := by
  obtain ⟨j, hj, e⟩ := cl_cfE v
  have h : j = 0 ∨ j = 1 := by omega
  rcases h with rfl | rfl
  · exact Or.inl e
  · exact Or.inr e
theorem cl_or {k a b : Nat} (ha : a < 2 ^ k) (hb : a + b * 2 ^ k < 2 ^ 32) : nI a ||| nI (b * 2 ^ k) = nI (a + b * 2 ^ k) := by
  apply Int32.toBitVec_inj.mp
  apply BitVec.eq_of_toNat_eq
  rw [Int32.toBitVec_or, BitVec.toNat_or, pk_tn (Nat.lt_of_le_of_lt (Nat.le_add_right a _) hb), pk_tn (Nat.lt_of_le_of_lt (Nat.le_add_left _ a) hb), pk_tn hb, Nat.or_comm, Nat.add_comm, Nat.mul_comm]
  exact (Nat.two_pow_add_eq_or_of_lt ha b).symm
theorem cl_mkN {c o s f d : Nat} (hc : c < 128) (ho : o < 8) (hs : s < 128) (hf : f < 2) (hd : d < 128) : cl_mk (nI c) (nI o - 1) (nI s) (nI f) (nI d) = nI (c + o * 2 ^ 7 + s * 2 ^ 10 + f * 2 ^ 17 + d * 2 ^ 18) := by
  unfold cl_mk
  rw [Int32.sub_add_cancel, pk_shlN (n := o) _ 7 (by decide) (by omega), pk_shlN (n := s) _ 10 (by decide) (by omega), pk_shlN (n := f) _ 17 (by decide) (by omega), pk_shlN (n := d) _ 18 (by decide) (by omega)]
  rw [cl_or (by omega) (by omega), cl_or (by omega) (by omega), cl_or (by omega) (by omega), cl_or (by omega) (by omega)]
theorem cl_mkF {c o s f d : Nat} (hc : c < 128) (ho : o < 8) (hs : s < 128) (hf : f < 2) (hd : d < 128) :
    cl_cn (cl_mk (nI c) (nI o - 1) (nI s) (nI f) (nI d)) = nI c ∧ cl_ow (cl_mk (nI c) (nI o - 1) (nI s) (nI f) (nI d)) = nI o - 1 ∧ cl_sh (cl_mk (nI c) (nI o - 1) (nI s) (nI f) (nI d)) = nI s ∧ cl_cf (cl_mk (nI c) (nI o - 1) (nI s) (nI f) (nI d)) = nI f ∧ cl_pe (cl_mk (nI c) (nI o - 1) (nI s) (nI f) (nI d)) = nI d := by
  rw [cl_mkN hc ho hs hf hd]
  have hN : c + o * 2 ^ 7 + s * 2 ^ 10 + f * 2 ^ 17 + d * 2 ^ 18 < 2 ^ 31 := by omega
  have e7 : (c + o * 2 ^ 7 + s * 2 ^ 10 + f * 2 ^ 17 + d * 2 ^ 18) % 2 ^ 7 = c := by omega
  have e10 : (c + o * 2 ^ 7 + s * 2 ^ 10 + f * 2 ^ 17 + d * 2 ^ 18) / 2 ^ 7 % 2 ^ 3 = o := by omega
  have e17 : (c + o * 2 ^ 7 + s * 2 ^ 10 + f * 2 ^ 17 + d * 2 ^ 18) / 2 ^ 10 % 2 ^ 7 = s := by omega
  have e18 : (c + o * 2 ^ 7 + s * 2 ^ 10 + f * 2 ^ 17 + d * 2 ^ 18) / 2 ^ 17 % 2 ^ 1 = f := by omega
  have e25 : (c + o * 2 ^ 7 + s * 2 ^ 10 + f * 2 ^ 17 + d * 2 ^ 18) / 2 ^ 18 % 2 ^ 7 = d := by omega
  generalize c + o * 2 ^ 7 + s * 2 ^ 10 + f * 2 ^ 17 + d * 2 ^ 18 = N at *
  have hd : ∀ k, N / 2 ^ k < 2 ^ 32 := fun k => Nat.lt_of_le_of_lt (Nat.div_le_self _ _) (by omega)
  refine ⟨?_, ?_, ?_, ?_, ?_⟩
  · unfold cl_cn; rw [pk_andN (by omega) 7 (by decide), e7]
  · unfold cl_ow; rw [pk_shrN hN _ 7 (by decide), pk_andN (hd 7) 3 (by decide), e10]
  · unfold cl_sh; rw [pk_shrN hN _ 10 (by decide), pk_andN (hd 10) 7 (by decide), e17]
  · unfold cl_cf; rw [pk_shrN hN _ 17 (by decide), pk_andN (hd 17) 1 (by decide), e18]
  · unfold cl_pe; rw [pk_shrN hN _ 18 (by decide), pk_andN (hd 18) 7 (by decide), e25]
theorem cl_bc : ∀ c, c < 128 → ∀ i, i < 32 → 7 ≤ i → bt (nI c) i = false := by decide +kernel
theorem cl_b128 : ∀ i, i < 32 → bt (-128) i = decide (7 ≤ i) := by decide +kernel
theorem cl_b127 : ∀ i, i < 32 → bt 127 i = decide (i < 7) := by decide +kernel
theorem cl_wcb {v : Int32} {c i : Nat} (hc : c < 128) (hi : i < 32) (h7 : 7 ≤ i) : bt (cl_wc v (nI c)) i = bt v i := by
  unfold cl_wc
  rw [b_or, b_and, cl_b128 i hi, cl_bc c hc i hi h7, decide_eq_true h7, Bool.and_true, Bool.or_false]
theorem cl_wcs (k : Nat) {v : Int32} {c : Nat} (hc : c < 128) (hk : k < 32) (h7 : 7 ≤ k) : cl_wc v (nI c) >>> (nI k &&& 31) = v >>> (nI k &&& 31) := by
  apply b_ext
  intro i hi
  rw [b_sshr k hk _ hi, b_sshr k hk _ hi]
  by_cases h : k + i < 32
  · rw [if_pos h, if_pos h, cl_wcb hc h (by omega)]
  · rw [if_neg h, if_neg h, cl_wcb hc (by omega) (by omega)]
theorem cl_wcF {v : Int32} {c : Nat} (hc : c < 128) : cl_cn (cl_wc v (nI c)) = nI c ∧ cl_ow (cl_wc v (nI c)) = cl_ow v ∧ cl_sh (cl_wc v (nI c)) = cl_sh v ∧ cl_cf (cl_wc v (nI c)) = cl_cf v ∧ cl_pe (cl_wc v (nI c)) = cl_pe v := by
  refine ⟨?_, ?_, ?_, ?_, ?_⟩
  · apply b_ext
    intro i hi
    unfold cl_cn cl_wc
    rw [b_and, b_or, b_and, cl_b128 i hi, cl_b127 i hi]
    by_cases h : i < 7
    · rw [decide_eq_true h, decide_eq_false (by omega), Bool.and_true, Bool.and_false, Bool.false_or]
    · rw [decide_eq_false h, Bool.and_false, cl_bc c hc i hi (by omega)]
  · exact congrArg (fun z : Int32 => (z &&& 7) - 1) (cl_wcs 7 hc (by omega) (by omega))
  · exact congrArg (fun z : Int32 => z &&& 127) (cl_wcs 10 hc (by omega) (by omega))
  · exact congrArg (fun z : Int32 => z &&& 1) (cl_wcs 17 hc (by omega) (by omega))
  · exact congrArg (fun z : Int32 => z &&& 127) (cl_wcs 18 hc (by omega) (by omega))
theorem cl_0F : cl_cn 0 = 0 ∧ cl_ow 0 = -1 ∧ cl_sh 0 = 0 ∧ cl_cf 0 = 0 ∧ cl_pe 0 = 0 := by decide
/-! packed cells a against plain cells b -/
def cl_E (a b : Nat → Int32) : Prop := ∀ p, p < 24 → b (5 * p) = cl_cn (a p) ∧ b (5 * p + 1) = cl_ow (a p) ∧ b (5 * p + 2) = cl_sh (a p) ∧ b (5 * p + 3) = cl_cf (a p) ∧ b (5 * p + 4) = cl_pe (a p) ∧ ¬ cl_ow (a p) = 6
theorem cl_Eupd {a b b' : Nat → Int32} {p : Nat} {v : Int32} (h : cl_E a b) (hk : ∀ j, (j < 5 * p ∨ 5 * p + 5 ≤ j) → b' j = b j) (h0 : b' (5 * p) = cl_cn v) (h1 : b' (5 * p + 1) = cl_ow v) (h2 : b' (5 * p + 2) = cl_sh v) (h3 : b' (5 * p + 3) = cl_cf v) (h4 : b' (5 * p + 4) = cl_pe v) (h5 : ¬ cl_ow v = 6) : cl_E (upd a p v) b' := by
  intro q hq
  by_cases e : q = p
  · subst e
    rw [pk_us]
    exact ⟨h0, h1, h2, h3, h4, h5⟩
  · rw [pk_un e]
    obtain ⟨g0, g1, g2, g3, g4, g5⟩ := h q hq
    exact ⟨(hk _ (by omega)).trans g0, (hk _ (by omega)).trans g1, (hk _ (by omega)).trans g2, (hk _ (by omega)).trans g3, (hk _ (by omega)).trans g4, g5⟩
theorem cl_Ecp {a b b' : Nat → Int32} (h : cl_E a b) (hk : ∀ j, j < 120 → b' j = b j) : cl_E a b' := by
  intro q hq
  obtain ⟨g0, g1, g2, g3, g4, g5⟩ := h q hq
  exact ⟨(hk _ (by omega)).trans g0, (hk _ (by omega)).trans g1, (hk _ (by omega)).trans g2, (hk _ (by omega)).trans g3, (hk _ (by omega)).trans g4, g5⟩
/-- the owner of a cell: none, or a number below 6 -/
theorem cl_ow6 {v : Int32} (h : ¬ cl_ow v = 6) : cl_ow v = -1 ∨ ∃ j : Nat, j < 6 ∧ cl_ow v = nI j := by
  obtain ⟨j, hj, e⟩ := cl_owE v
  rcases Nat.eq_zero_or_pos j with rfl | h0
  · exact Or.inl (e.trans (by decide))
  · obtain ⟨i, rfl⟩ : ∃ i, j = i + 1 := ⟨j - 1, by omega⟩
    rw [nI_pred] at e
    refine Or.inr ⟨i, ?_, e⟩
    by_cases h6 : i = 6
    · subst h6
      exact absurd e h
    · omega
end
section
/-! ===== the relation ===== -/
/-- the place of the working package's cell for path q -/
def rl_pl (Q : Nat) (bD : Nat → Int32) (wh : Int32) (q : Nat) : Nat := if bD q < 0 ∨ bD q = wh then q else Q + q
theorem rl_pl_lt {Q q : Nat} {bD : Nat → Int32} {wh : Int32} (hq : q < Q) : rl_pl Q bD wh q < 2 * Q := by
  unfold rl_pl
  by_cases h : bD q < 0 ∨ bD q = wh
  · rw [if_pos h]; omega
  · rw [if_neg h]; omega
theorem rl_pl_or (Q q : Nat) (bD : Nat → Int32) (wh : Int32) : rl_pl Q bD wh q = q ∨ rl_pl Q bD wh q = Q + q := by
  unfold rl_pl
  by_cases h : bD q < 0 ∨ bD q = wh
  · rw [if_pos h]; exact Or.inl rfl
  · rw [if_neg h]; exact Or.inr rfl
theorem rl_pl_inj {Q q r : Nat} {bD : Nat → Int32} {wh : Int32} (hq : q < Q) (hr : r < Q) (e : rl_pl Q bD wh q = rl_pl Q bD wh r) : q = r := by
  rcases rl_pl_or Q q bD wh with h | h <;> rcases rl_pl_or Q r bD wh with g | g <;> omega
/-- the journal undone, from entry n - 1 down to entry 0 -/
def rl_un (J K : Nat → Int32) : Nat → (Nat → Int32) → Nat → Int32
  | 0, c => c
  | n + 1, c => rl_un J K n (upd c (J n).toNatClampNeg (K n))
theorem rl_un_ext {J K J' K' : Nat → Int32} : ∀ (n : Nat) (c : Nat → Int32), (∀ i, i < n → J' i = J i ∧ K' i = K i) → rl_un J' K' n c = rl_un J K n c
  | 0, _, _ => rfl
  | n + 1, c, h => by
    show rl_un J' K' n (upd c (J' n).toNatClampNeg (K' n)) = rl_un J K n (upd c (J n).toNatClampNeg (K n))
    rw [(h n (by omega)).1, (h n (by omega)).2]
    exact rl_un_ext n _ (fun i hi => h i (by omega))
theorem rl_un_push {J K c : Nat → Int32} {r p : Nat} {v : Int32} (hp : p < 24) : rl_un (upd J r (nI p)) (upd K r (c p)) (r + 1) (upd c p v) = rl_un J K r c := by
  show rl_un (upd J r (nI p)) (upd K r (c p)) r (upd (upd c p v) (upd J r (nI p) r).toNatClampNeg (upd K r (c p) r)) = _
  rw [pk_us, pk_us, nI_clamp (by omega), up_back]
  exact rl_un_ext r c (fun i hi => ⟨pk_un (by omega), pk_un (by omega)⟩)
def rl_D (aD bD : Nat → Int32) : Prop := ∀ q, q < 12 → ∃ d : Nat, d ≤ 6 ∧ aD q = nI d ∧ bD q = nI d - 1
def rl_T (aS : Nat → Int32) : Prop := ∀ k, k < 6 → ∃ s : Nat, s ≤ 5 ∧ aS k = nI s
def rl_A (aA : Nat → Int32) : Prop := ∀ i, i < 72 → ∃ e : Nat, e < 200 ∧ aA i = nI e
def rl_RR (x y z : Int32) : Prop := (x = 0 ∧ y = 0 ∧ z = 0) ∨ (x = 1 ∧ y = 1 ∧ z = 0) ∨ (x = 2 ∧ y = 0 ∧ z = 1) ∨ (x = 3 ∧ y = 1 ∧ z = 1)
def rl_R (aR bR : Nat → Int32) : Prop := ∀ i, i < 36 → rl_RR (aR i) (bR i) (bR (36 + i))
def rl_S (P Q : Nat) (aC aD aS aA aR bC bD bR : Nat → Int32) : Prop := 2 ≤ P ∧ P ≤ 6 ∧ 2 ≤ Q ∧ Q ≤ 12 ∧ cl_E aC bC ∧ rl_D aD bD ∧ rl_T aS ∧ rl_A aA ∧ rl_R aR bR
/-- the kinds of step of each operation -/
def rl_al (op nx : Int32) : Prop :=
  (op = 1 ∧ (nx = 1 ∨ nx = 2 ∨ nx = 3 ∨ nx = 4 ∨ nx = 5 ∨ nx = 6 ∨ nx = 7 ∨ nx = 10 ∨ nx = 11 ∨ nx = 12 ∨ nx = 13 ∨ nx = 14)) ∨
  (op = 2 ∧ (nx = 8 ∨ nx = 9 ∨ nx = 10)) ∨
  (op = 3 ∧ (nx = 1 ∨ nx = 5 ∨ nx = 7 ∨ nx = 10 ∨ nx = 14)) ∨
  (op = 4 ∧ (nx = 5 ∨ nx = 7 ∨ nx = 10))
def rl_fi (nx : Int32) : Prop := nx = 4 ∨ nx = 7 ∨ nx = 8 ∨ nx = 12
def rl_Pos (Q : Nat) (op nx cu : Int32) : Prop := rl_al op nx ∧ ((rl_fi nx ∧ ∃ c : Nat, c < Q ∧ cu = nI c) ∨ (¬ rl_fi nx ∧ cu = -1))
/-- how many unsaved steps there can be -/
def rl_B (nx cu : Int32) (r : Nat) : Prop := r ≤ 24 ∧ ∀ c : Nat, c < 12 → cu = nI c → ((nx = 4 ∨ nx = 8) → r ≤ c) ∧ (nx = 7 → r ≤ 12 + c) ∧ (nx = 12 → r + c ≤ 11)
theorem rl_B0 (nx cu : Int32) : rl_B nx cu 0 := ⟨by omega, fun c hc _ => ⟨fun _ => by omega, fun _ => by omega, fun _ => by omega⟩⟩
def rl_O (Q : Nat) (pl : Nat → Nat) (aB aC aV aT aG : Nat → Int32) : Prop := (∀ p, p < 24 → (∀ q, q < Q → p = pl q → aT q = 0) → aC p = aB p ∧ aV p = aB p) ∧ (∀ q, q < Q → ¬ aT q = 0 → aG q = aB (pl q))
def rl_Z (op wh nx cu rk sn sc : Int32) : Prop := op = 0 ∧ wh = -1 ∧ nx = 0 ∧ cu = -1 ∧ rk = 0 ∧ sn = 0 ∧ sc = -1
def rl_Y (P Q : Nat) (op wh nx cu rk sn sc : Int32) (aC aG aT aJ aK bB bV bD : Nat → Int32) (w r : Nat) (aB : Nat → Int32) : Prop :=
  w < P ∧ wh = nI w ∧ rl_Pos Q op nx cu ∧ rl_Pos Q op sn sc ∧ rk = nI r ∧ rl_B nx cu r ∧ (∀ i, i < r → vp_in (aJ i) 24) ∧ cl_E aB bB ∧ cl_E (rl_un aJ aK r aC) bV ∧ rl_O Q (rl_pl Q bD (nI w)) aB aC (rl_un aJ aK r aC) aT aG
def rl_W (P Q : Nat) (op wh nx cu rk sn sc : Int32) (aC aG aT aJ aK bB bV bD : Nat → Int32) : Prop :=
  rl_Z op wh nx cu rk sn sc ∨ ∃ (w r : Nat) (aB : Nat → Int32), rl_Y P Q op wh nx cu rk sn sc aC aG aT aJ aK bB bV bD w r aB
def rl_F (P Q : Nat) (op wh nx cu rk sn sc : Int32) (aC aD aS aA aR aG aT aJ aK bC bB bV bD bR : Nat → Int32) : Prop :=
  rl_S P Q aC aD aS aA aR bC bD bR ∧ rl_W P Q op wh nx cu rk sn sc aC aG aT aJ aK bB bV bD
/-- the relation: the same fields and lists, packed cells against plain ones, diverters one more, relations as bits; and, while an operation is under way, first values and journal against the whole copies -/
def i_Rel (k : Nat) (u : SX) (v : SY) : Prop :=
  ∃ (P Q : Nat) (op wh pn nx cu ou dn rk sn sc : Int32) (aC aD aS aI aO aA aR aG aT aJ aK bC bB bV bD bR : Nat → Int32),
    u = (nI P, nI Q, op, wh, pn, nx, cu, ou, dn, rk, sn, sc, aC, aD, aS, aI, aO, aA, aR, aG, aT, aJ, aK) ∧ v = (nI P, nI Q, op, wh, nx, cu, sn, sc, ou, rk, pn, dn, bC, bB, bV, bD, aS, aI, aO, aA, bR) ∧ rl_F P Q op wh nx cu rk sn sc aC aD aS aA aR aG aT aJ aK bC bB bV bD bR
theorem i_up {k : Nat} {u : SX} {v : SY} (h : i_Rel k u v) : i_Rel (k + 5) u v := h
section
variable {P Q : Nat} {op wh pn nx cu ou dn rk sn sc rj : Int32} {aC aD aS aI aO aA aR aG aT aJ aK bC bB bV bD bR : Nat → Int32}
theorem zz_in {k : Nat} (h : rl_F P Q op wh nx cu rk sn sc aC aD aS aA aR aG aT aJ aK bC bB bV bD bR) : i_Rel k (nI P, nI Q, op, wh, pn, nx, cu, ou, dn, rk, sn, sc, aC, aD, aS, aI, aO, aA, aR, aG, aT, aJ, aK) (nI P, nI Q, op, wh, nx, cu, sn, sc, ou, rk, pn, dn, bC, bB, bV, bD, aS, aI, aO, aA, bR) :=
  ⟨P, Q, op, wh, pn, nx, cu, ou, dn, rk, sn, sc, aC, aD, aS, aI, aO, aA, aR, aG, aT, aJ, aK, bC, bB, bV, bD, bR, rfl, rfl, h⟩
end
theorem zz_el {k : Nat} {u : SX} {v : SY} {M : SX → SY → Prop} (I : i_Rel k u v)
    (h : ∀ (P Q : Nat) (op wh pn nx cu ou dn rk sn sc : Int32) (aC aD aS aI aO aA aR aG aT aJ aK bC bB bV bD bR : Nat → Int32), rl_F P Q op wh nx cu rk sn sc aC aD aS aA aR aG aT aJ aK bC bB bV bD bR → M (nI P, nI Q, op, wh, pn, nx, cu, ou, dn, rk, sn, sc, aC, aD, aS, aI, aO, aA, aR, aG, aT, aJ, aK) (nI P, nI Q, op, wh, nx, cu, sn, sc, ou, rk, pn, dn, bC, bB, bV, bD, aS, aI, aO, aA, bR)) : M u v :=
  Exists.elim I fun P I => Exists.elim I fun Q I => Exists.elim I fun op I => Exists.elim I fun wh I => Exists.elim I fun pn I => Exists.elim I fun nx I => Exists.elim I fun cu I => Exists.elim I fun ou I => Exists.elim I fun dn I => Exists.elim I fun rk I => Exists.elim I fun sn I => Exists.elim I fun sc I =>
  Exists.elim I fun aC I => Exists.elim I fun aD I => Exists.elim I fun aS I => Exists.elim I fun aI I => Exists.elim I fun aO I => Exists.elim I fun aA I => Exists.elim I fun aR I => Exists.elim I fun aG I => Exists.elim I fun aT I => Exists.elim I fun aJ I => Exists.elim I fun aK I =>
  Exists.elim I fun bC I => Exists.elim I fun bB I => Exists.elim I fun bV I => Exists.elim I fun bD I => Exists.elim I fun bR I => by
    rw [I.1, I.2.1]
    exact h P Q op wh pn nx cu ou dn rk sn sc aC aD aS aI aO aA aR aG aT aJ aK bC bB bV bD bR I.2.2
/-! ===== what becomes of the relation's facts ===== -/
section
variable {P Q : Nat} {op wh pn nx cu ou dn rk sn sc rj : Int32} {aC aD aS aI aO aA aR aG aT aJ aK bC bB bV bD bR : Nat → Int32}
theorem rl_al0 {op nx : Int32} (h : rl_al op nx) : ¬ op = 0 := by
  intro e
  subst e
  rcases h with ⟨h, _⟩ | ⟨h, _⟩ | ⟨h, _⟩ | ⟨h, _⟩ <;> exact absurd h (by decide)
theorem rl_wZ (h : rl_W P Q op wh nx cu rk sn sc aC aG aT aJ aK bB bV bD) (e : op = 0) : rl_Z op wh nx cu rk sn sc := by
  rcases h with h | ⟨w, r, aB, _, _, h, _⟩
  · exact h
  · exact absurd e (rl_al0 h.1)
theorem rl_wY (h : rl_W P Q op wh nx cu rk sn sc aC aG aT aJ aK bB bV bD) (e : ¬ op = 0) : ∃ (w r : Nat) (aB : Nat → Int32), rl_Y P Q op wh nx cu rk sn sc aC aG aT aJ aK bB bV bD w r aB := by
  rcases h with h | h
  · exact absurd h.1 e
  · exact h
/-- a step to (nx', cu'), saved -/
theorem rl_move {nx' cu' : Int32} (F : rl_F P Q op wh nx cu rk sn sc aC aD aS aA aR aG aT aJ aK bC bB bV bD bR) (e : ¬ op = 0) (h : rl_Pos Q op nx' cu') : rl_F P Q op wh nx' cu' 0 nx' cu' aC aD aS aA aR aG aT aJ aK bC bB (cp_f bC bV 0 120) bD bR := by
  obtain ⟨w, r, aB, hw, hwh, hp, hs, hr, hb, hj, hB, hV, ho⟩ := rl_wY F.2 e
  obtain ⟨hS, _⟩ := F
  refine ⟨hS, Or.inr ⟨w, 0, aB, hw, hwh, h, h, rfl, rl_B0 _ _, fun i hi => absurd hi (by omega), hB, cl_Ecp hS.2.2.2.2.1 (fun j hj => cp_in (by omega) hj), fun p hp h => ⟨(ho.1 p hp h).1, (ho.1 p hp h).1⟩, ho.2⟩⟩
/-- the operation's end, saved -/
theorem rl_end {w s : Nat} (F : rl_F P Q op wh nx cu rk sn sc aC aD aS aA aR aG aT aJ aK bC bB bV bD bR) (hs : s ≤ 5) : rl_F P Q 0 (-1) 0 (-1) 0 0 (-1) aC aD (upd aS w (nI s)) aA aR aG aT aJ aK bC bB (cp_f bC bV 0 120) bD bR := by
  obtain ⟨⟨h1, h2, h3, h4, h5, h6, h7, h8, h9⟩, _⟩ := F
  refine ⟨⟨h1, h2, h3, h4, h5, h6, ?_, h8, h9⟩, Or.inl ⟨rfl, rfl, rfl, rfl, rfl, rfl, rfl⟩⟩
  intro k hk
  by_cases e : k = w
  · subst e
    exact ⟨s, hs, pk_us⟩
  · rw [pk_un e]
    exact h7 k hk
theorem rl_sync (F : rl_F P Q op wh nx cu rk sn sc aC aD aS aA aR aG aT aJ aK bC bB bV bD bR) : rl_F P Q op wh nx cu 0 nx cu aC aD aS aA aR aG aT aJ aK bC bB (cp_f bC bV 0 120) bD bR := by
  by_cases e : op = 0
  · obtain ⟨_, a, b, c, _, _, _⟩ := rl_wZ F.2 e
    exact ⟨F.1, Or.inl ⟨e, a, b, c, rfl, b, c⟩⟩
  · obtain ⟨w, r, aB, _, _, hp, _⟩ := rl_wY F.2 e
    exact rl_move F e hp
theorem rl_cut {r : Nat} (F : rl_F P Q op wh nx cu rk sn sc aC aD aS aA aR aG aT aJ aK bC bB bV bD bR) (e : ¬ op = 0) (er : rk = nI r) (hr : r < 2 ^ 31) : rl_F P Q op wh sn sc 0 sn sc (rl_un aJ aK r aC) aD aS aA aR aG aT aJ aK (cp_f bV bC 0 120) bB bV bD bR := by
  obtain ⟨w, r', aB, hw, hwh, hp, hs, hr', hb, hj, hB, hV, ho⟩ := rl_wY F.2 e
  obtain ⟨⟨h1, h2, h3, h4, h5, h6, h7, h8, h9⟩, _⟩ := F
  have e2 : r' = r := by
    have h24 := hb.1
    exact (nI_eq (by omega) hr).mp (hr'.symm.trans er)
  subst e2
  exact ⟨⟨h1, h2, h3, h4, cl_Ecp hV (fun j hj => cp_in (by omega) hj), h6, h7, h8, h9⟩, Or.inr ⟨w, 0, aB, hw, hwh, hs, hs, rfl, rl_B0 _ _, fun i hi => absurd hi (by omega), hB, hV, fun p hp h => ⟨(ho.1 p hp h).2, (ho.1 p hp h).2⟩, ho.2⟩⟩
theorem rl_begin {op' nx' cu' : Int32} {w : Nat} (F : rl_F P Q op wh nx cu rk sn sc aC aD aS aA aR aG aT aJ aK bC bB bV bD bR) (hw : w < P) (h : rl_Pos Q op' nx' cu') : rl_F P Q op' (nI w) nx' cu' 0 nx' cu' aC aD aS aA aR aG (cp_f (fun _ => 0) aT 0 12) aJ aK bC (cp_f bC bB 0 120) (cp_f bC bV 0 120) bD bR := by
  obtain ⟨hS, _⟩ := F
  have hC := hS.2.2.2.2.1
  have hQ := hS.2.2.2.1
  exact ⟨hS, Or.inr ⟨w, 0, aC, hw, rfl, h, h, rfl, rl_B0 _ _, fun i hi => absurd hi (by omega), cl_Ecp hC (fun j hj => cp_in (by omega) hj), cl_Ecp hC (fun j hj => cp_in (by omega) hj), fun p _ _ => ⟨rfl, rfl⟩, fun q hq h => absurd (cp_in (by omega) (by omega)) h⟩⟩
/-- touched and origin behind a write at path c, where the cell was x -/
def rl_tT (aT : Nat → Int32) (c : Nat) : Nat → Int32 := if aT c = 0 then upd aT c 1 else aT
def rl_tG (aT aG : Nat → Int32) (c : Nat) (x : Int32) : Nat → Int32 := if aT c = 0 then upd aG c x else aG
theorem rl_file {nx' cu' v : Int32} {w c r : Nat} {aB bC' : Nat → Int32} (hS : rl_S P Q aC aD aS aA aR bC bD bR)
    (Y : rl_Y P Q op wh nx (nI c) rk sn sc aC aG aT aJ aK bB bV bD w r aB) (hc : c < Q)
    (hE : cl_E (upd aC (rl_pl Q bD (nI w) c) v) bC') (hP : rl_Pos Q op nx' cu') (hB' : rl_B nx' cu' (r + 1)) :
    rl_F P Q op wh nx' cu' (nI (r + 1)) sn sc (upd aC (rl_pl Q bD (nI w) c) v) aD aS aA aR (rl_tG aT aG c (aC (rl_pl Q bD (nI w) c))) (rl_tT aT c) (upd aJ r (nI (rl_pl Q bD (nI w) c))) (upd aK r (aC (rl_pl Q bD (nI w) c))) bC' bB bV bD bR := by
  obtain ⟨hw, hwh, hp, hs, hr, hb, hj, hB, hV, ho⟩ := Y
  obtain ⟨h1, h2, h3, h4, h5, h6, h7, h8, h9⟩ := hS
  have hpl : rl_pl Q bD (nI w) c < 24 := Nat.lt_of_lt_of_le (rl_pl_lt hc) (by omega)
  refine ⟨⟨h1, h2, h3, h4, hE, h6, h7, h8, h9⟩, Or.inr ⟨w, r + 1, aB, hw, hwh, hP, hs, rfl, hB', ?_, hB, ?_, ?_, ?_⟩⟩
  · intro i hi
    by_cases e : i = r
    · subst e
      rw [pk_us]
      exact vp_in_nI hpl (by omega)
    · rw [pk_un e]
      exact hj i (by omega)
  · rw [rl_un_push hpl]
    exact hV
  · intro p hp' h
    rw [rl_un_push hpl]
    have hc0 : ¬ rl_tT aT c c = 0 := by
      unfold rl_tT
      by_cases z : aT c = 0
      · rw [if_pos z, pk_us]; decide
      · rw [if_neg z]; exact z
    have hne : p ≠ rl_pl Q bD (nI w) c := fun z => hc0 (h c hc z)
    rw [pk_un hne]
    refine ho.1 p hp' (fun q hq hpq => ?_)
    have hqc : q ≠ c := fun z => hne (z ▸ hpq)
    have hz := h q hq hpq
    unfold rl_tT at hz
    by_cases z : aT c = 0
    · rw [if_pos z, pk_un hqc] at hz; exact hz
    · rw [if_neg z] at hz; exact hz
  · intro q hq hz
    unfold rl_tT at hz
    unfold rl_tG
    by_cases z : aT c = 0
    · rw [if_pos z] at hz
      rw [if_pos z]
      by_cases e : q = c
      · subst e
        rw [pk_us]
        exact (ho.1 _ hpl (fun q' hq' e' => (rl_pl_inj hc hq' e') ▸ z)).1
      · rw [pk_un e] at hz
        rw [pk_un e]
        exact ho.2 q hq hz
    · rw [if_neg z] at hz
      rw [if_neg z]
      exact ho.2 q hq hz
end
end
section
/-! ===== small walks ===== -/
section
variable {P Q : Nat} {op wh pn nx cu ou dn rk sn sc rj : Int32} {aC aD aS aI aO aA aR aG aT aJ aK bC bB bV bD bR : Nat → Int32}
theorem xx_isPack0 {post : Int32 → Prop} {x : Int32} (h : x < 0 ∨ nI P ≤ x) (hp : post 0) : wpX_isPack post (nI P, nI Q, op, wh, pn, nx, cu, ou, dn, rk, sn, sc, aC, aD, aS, aI, aO, aA, aR, aG, aT, aJ, aK) x := by
  by_cases h0 : x < 0
  · exact br_t h0 hp
  · exact br_f h0 (br_t (h.resolve_left h0) hp)
theorem xx_isPack1 {post : Int32 → Prop} {j : Nat} (hj : j < P) (hP : P ≤ 6) (hp : post 1) : wpX_isPack post (nI P, nI Q, op, wh, pn, nx, cu, ou, dn, rk, sn, sc, aC, aD, aS, aI, aO, aA, aR, aG, aT, aJ, aK) (nI j) :=
  br_f (nI_pos (by omega)) (br_f (nI_ge hj (by omega)) hp)
theorem xx_isPath0 {post : Int32 → Prop} {x : Int32} (h : x < 0 ∨ nI Q ≤ x) (hp : post 0) : wpX_isPath post (nI P, nI Q, op, wh, pn, nx, cu, ou, dn, rk, sn, sc, aC, aD, aS, aI, aO, aA, aR, aG, aT, aJ, aK) x := by
  by_cases h0 : x < 0
  · exact br_t h0 hp
  · exact br_f h0 (br_t (h.resolve_left h0) hp)
theorem xx_isPath1 {post : Int32 → Prop} {j : Nat} (hj : j < Q) (hQ : Q ≤ 12) (hp : post 1) : wpX_isPath post (nI P, nI Q, op, wh, pn, nx, cu, ou, dn, rk, sn, sc, aC, aD, aS, aI, aO, aA, aR, aG, aT, aJ, aK) (nI j) :=
  br_f (nI_pos (by omega)) (br_f (nI_ge hj (by omega)) hp)
theorem xx_isPlace0 {post : Int32 → Prop} {x : Int32} (h : x < 0 ∨ 2 * nI Q ≤ x) (hp : post 0) : wpX_isPlace post (nI P, nI Q, op, wh, pn, nx, cu, ou, dn, rk, sn, sc, aC, aD, aS, aI, aO, aA, aR, aG, aT, aJ, aK) x := by
  by_cases h0 : x < 0
  · exact br_t h0 hp
  · exact br_f h0 (br_t (h.resolve_left h0) hp)
theorem xx_isPlace1 {post : Int32 → Prop} {x : Int32} (h0 : ¬ x < 0) (h1 : ¬ 2 * nI Q ≤ x) (hp : post 1) : wpX_isPlace post (nI P, nI Q, op, wh, pn, nx, cu, ou, dn, rk, sn, sc, aC, aD, aS, aI, aO, aA, aR, aG, aT, aJ, aK) x :=
  br_f h0 (br_f h1 hp)
theorem xx_isRel0 {post : Int32 → Prop} {x : Int32} (h1 : ¬ x = 1) (h2 : ¬ x = 2) (hp : post 0) : wpX_isRelation post (nI P, nI Q, op, wh, pn, nx, cu, ou, dn, rk, sn, sc, aC, aD, aS, aI, aO, aA, aR, aG, aT, aJ, aK) x :=
  br_f h1 (br_f h2 hp)
theorem xx_isRel1 {post : Int32 → Prop} {x : Int32} (h : x = 1 ∨ x = 2) (hp : post 1) : wpX_isRelation post (nI P, nI Q, op, wh, pn, nx, cu, ou, dn, rk, sn, sc, aC, aD, aS, aI, aO, aA, aR, aG, aT, aJ, aK) x := by
  by_cases h1 : x = 1
  · exact br_t h1 hp
  · exact br_f h1 (br_t (h.resolve_left h1) hp)
theorem xx_run1 {post : Int32 → Prop} {x : Int32} (h : x = 4 ∨ x = 7 ∨ x = 8) (hp : post 1) : wpX_isRun post (nI P, nI Q, op, wh, pn, nx, cu, ou, dn, rk, sn, sc, aC, aD, aS, aI, aO, aA, aR, aG, aT, aJ, aK) x := by
  by_cases h4 : x = 4
  · exact br_t h4 hp
  · by_cases h7 : x = 7
    · exact br_f h4 (br_t h7 hp)
    · exact br_f h4 (br_f h7 (br_t ((h.resolve_left h4).resolve_left h7) hp))
theorem xx_run0 {post : Int32 → Prop} {x : Int32} (h4 : ¬ x = 4) (h7 : ¬ x = 7) (h8 : ¬ x = 8) (hp : post 0) : wpX_isRun post (nI P, nI Q, op, wh, pn, nx, cu, ou, dn, rk, sn, sc, aC, aD, aS, aI, aO, aA, aR, aG, aT, aJ, aK) x :=
  br_f h4 (br_f h7 (br_f h8 hp))
theorem xx_ow {post : Int32 → Prop} {v : Int32} (hp : post (cl_ow v)) : wpX_ownerOf post (nI P, nI Q, op, wh, pn, nx, cu, ou, dn, rk, sn, sc, aC, aD, aS, aI, aO, aA, aR, aG, aT, aJ, aK) v := hp
theorem xx_cn {post : Int32 → Prop} {v : Int32} (hp : post (cl_cn v)) : wpX_contentOf post (nI P, nI Q, op, wh, pn, nx, cu, ou, dn, rk, sn, sc, aC, aD, aS, aI, aO, aA, aR, aG, aT, aJ, aK) v := hp
theorem xx_sh {post : Int32 → Prop} {v : Int32} (hp : post (cl_sh v)) : wpX_shippedOf post (nI P, nI Q, op, wh, pn, nx, cu, ou, dn, rk, sn, sc, aC, aD, aS, aI, aO, aA, aR, aG, aT, aJ, aK) v := hp
theorem xx_cf {post : Int32 → Prop} {v : Int32} (hp : post (cl_cf v)) : wpX_confOf post (nI P, nI Q, op, wh, pn, nx, cu, ou, dn, rk, sn, sc, aC, aD, aS, aI, aO, aA, aR, aG, aT, aJ, aK) v := hp
theorem xx_pe {post : Int32 → Prop} {v : Int32} (hp : post (cl_pe v)) : wpX_pendOf post (nI P, nI Q, op, wh, pn, nx, cu, ou, dn, rk, sn, sc, aC, aD, aS, aI, aO, aA, aR, aG, aT, aJ, aK) v := hp
theorem xx_mk {post : Int32 → Prop} {c o s f d : Int32} (hp : post (cl_mk c o s f d)) : wpX_make post (nI P, nI Q, op, wh, pn, nx, cu, ou, dn, rk, sn, sc, aC, aD, aS, aI, aO, aA, aR, aG, aT, aJ, aK) c o s f d := hp
theorem xx_wc {post : Int32 → Prop} {v c : Int32} (hp : post (cl_wc v c)) : wpX_withContent post (nI P, nI Q, op, wh, pn, nx, cu, ou, dn, rk, sn, sc, aC, aD, aS, aI, aO, aA, aR, aG, aT, aJ, aK) v c := hp
theorem xx_save {post : SX → Prop} (hp : post (nI P, nI Q, op, wh, pn, nx, cu, ou, dn, 0, nx, cu, aC, aD, aS, aI, aO, aA, aR, aG, aT, aJ, aK)) : wpX_save post (nI P, nI Q, op, wh, pn, nx, cu, ou, dn, rk, sn, sc, aC, aD, aS, aI, aO, aA, aR, aG, aT, aJ, aK) := hp
theorem xx_moveTo {post : SX → Prop} {k : Int32} (hp : post (nI P, nI Q, op, wh, pn, k, -1, ou, dn, rk, sn, sc, aC, aD, aS, aI, aO, aA, aR, aG, aT, aJ, aK)) : wpX_moveTo post (nI P, nI Q, op, wh, pn, nx, cu, ou, dn, rk, sn, sc, aC, aD, aS, aI, aO, aA, aR, aG, aT, aJ, aK) k := hp
theorem xx_end {post : Int32 → SX → Prop} {h : Int32} (hp : post h (nI P, nI Q, 0, -1, 0, 0, -1, h, dn, rk, sn, sc, aC, aD, aS, aI, aO, aA, aR, aG, aT, aJ, aK)) : wpX_end post (nI P, nI Q, op, wh, pn, nx, cu, ou, dn, rk, sn, sc, aC, aD, aS, aI, aO, aA, aR, aG, aT, aJ, aK) h := hp
theorem xx_upg {post : Int32 → Prop} {w : Nat} (hw : w < 6) (h0 : aS w < 3 → post 0) (h1 : ¬ aS w < 3 → post 1) : wpX_isUpgrade post (nI P, nI Q, op, nI w, pn, nx, cu, ou, dn, rk, sn, sc, aC, aD, aS, aI, aO, aA, aR, aG, aT, aJ, aK) := by
  refine And.intro (vp_in_nI hw (by decide)) ?_
  rw [nI_clamp (n := w) (by omega)]
  exact br_c h0 h1
theorem xx_place {post : Int32 → Prop} {q : Nat} {k : Int32} (hq : q < 12) (hD : bD q = aD q - 1) (hp : post (nI (rl_pl Q bD k q))) : wpX_placeOf post (nI P, nI Q, op, wh, pn, nx, cu, ou, dn, rk, sn, sc, aC, aD, aS, aI, aO, aA, aR, aG, aT, aJ, aK) k (nI q) := by
  refine And.intro (vp_in_nI hq (by decide)) ?_
  rw [nI_clamp (n := q) (by omega), ← hD]
  refine nm_e ?_
  unfold rl_pl at hp
  by_cases h1 : bD q < 0
  · rw [if_pos (Or.inl h1)] at hp
    exact br_t h1 hp
  · by_cases h2 : bD q = k
    · rw [if_pos (Or.inr h2)] at hp
      exact br_f h1 (br_t h2 hp)
    · rw [if_neg (fun z => z.elim h1 h2), ← nI_add] at hp
      exact br_f h1 (br_f h2 hp)
theorem xx_occ0 {post : Int32 → Prop} {v : Int32} (hc : cl_cn v = 0) (ho : cl_ow v < 0) (hp : post 0) : wpX_occupied post (nI P, nI Q, op, wh, pn, nx, cu, ou, dn, rk, sn, sc, aC, aD, aS, aI, aO, aA, aR, aG, aT, aJ, aK) v := by
  unfold wpX_occupied
  exact xx_cn (br_t hc (xx_ow (br_t ho hp)))
theorem xx_occ1 {post : Int32 → Prop} {v : Int32} (h : ¬ cl_cn v = 0 ∨ ¬ cl_ow v < 0) (hp : post 1) : wpX_occupied post (nI P, nI Q, op, wh, pn, nx, cu, ou, dn, rk, sn, sc, aC, aD, aS, aI, aO, aA, aR, aG, aT, aJ, aK) v := by
  unfold wpX_occupied
  by_cases hc : cl_cn v = 0
  · exact xx_cn (br_t hc (xx_ow (br_f (h.resolve_left (fun z => z hc)) hp)))
  · exact xx_cn (br_f hc hp)
theorem yy_refD {post : Int32 → Prop} {b : Int32} (h : ¬ dn = 0) (hp : post (-2)) : wpY_refusal post (nI P, nI Q, op, wh, nx, cu, sn, sc, ou, rk, pn, dn, bC, bB, bV, bD, aS, aI, aO, aA, bR) b := br_f h hp
theorem yy_refB {post : Int32 → Prop} {b : Int32} (h : dn = 0) (hb : ¬ b = 0) (hp : post (-9)) : wpY_refusal post (nI P, nI Q, op, wh, nx, cu, sn, sc, ou, rk, pn, dn, bC, bB, bV, bD, aS, aI, aO, aA, bR) b := br_t h (br_f hb hp)
theorem yy_refO {post : Int32 → Prop} (h : dn = 0) (ho : ¬ op = 0) (hp : post (-3)) : wpY_refusal post (nI P, nI Q, op, wh, nx, cu, sn, sc, ou, rk, pn, dn, bC, bB, bV, bD, aS, aI, aO, aA, bR) 0 := br_t h (br_t rfl (br_f ho hp))
theorem yy_ref0 {post : Int32 → Prop} (h : dn = 0) (ho : op = 0) (hp : post 0) : wpY_refusal post (nI P, nI Q, op, wh, nx, cu, sn, sc, ou, rk, pn, dn, bC, bB, bV, bD, aS, aI, aO, aA, bR) 0 := br_t h (br_t rfl (br_t ho hp))
theorem yy_go {post : SY → Prop} {k q : Int32} (hp : post (nI P, nI Q, op, wh, k, q, sn, sc, ou, rk, pn, dn, bC, bB, bV, bD, aS, aI, aO, aA, bR)) : wpY_go post (nI P, nI Q, op, wh, nx, cu, sn, sc, ou, rk, pn, dn, bC, bB, bV, bD, aS, aI, aO, aA, bR) k q := hp
theorem yy_end {post : SY → Prop} {w : Nat} {o s : Int32} (hw : w < 6) (hp : post (nI P, nI Q, 0, -1, 0, -1, sn, sc, o, rk, 0, dn, bC, bB, bV, bD, upd aS w s, aI, aO, aA, bR)) : wpY_end post (nI P, nI Q, op, nI w, nx, cu, sn, sc, ou, rk, pn, dn, bC, bB, bV, bD, aS, aI, aO, aA, bR) o s :=
  And.intro (vp_in_nI hw (by decide)) (nm_r (e' := upd aS w s) (by rw [nI_clamp (n := w) (by omega)]) hp)
theorem yy_at {post : Int32 → Prop} {q : Nat} (hq : q < 12) (hp : post (nI (5 * rl_pl Q bD wh q))) : wpY_at post (nI P, nI Q, op, wh, nx, cu, sn, sc, ou, rk, pn, dn, bC, bB, bV, bD, aS, aI, aO, aA, bR) (nI q) := by
  refine And.intro (vp_in_nI hq (by decide)) ?_
  rw [nI_clamp (n := q) (by omega)]
  unfold rl_pl at hp
  by_cases h1 : bD q < 0
  · rw [if_pos (Or.inl h1), ← ix_5] at hp
    exact br_t h1 hp
  · by_cases h2 : bD q = wh
    · rw [if_pos (Or.inr h2), ← ix_5] at hp
      exact br_f h1 ⟨vp_in_nI hq (by decide), br_t h2 hp⟩
    · rw [if_neg (fun z => z.elim h1 h2), ← ix_5, ← nI_add] at hp
      exact br_f h1 ⟨vp_in_nI hq (by decide), br_f h2 hp⟩
end
/-! ===== loops over blocks ===== -/
section
variable {P Q : Nat} {op wh pn nx cu ou dn rk sn sc rj : Int32} {aC aD aS aI aO aA aR aG aT aJ aK bC bB bV bD bR : Nat → Int32}
theorem yy_save2 {post : SY → Prop} : ∀ (d i : Nat), i + d = 120 → ∀ (bV : Nat → Int32), post (nI P, nI Q, op, wh, nx, cu, nx, cu, ou, 0, pn, dn, bC, bB, cp_f bC bV i 120, bD, aS, aI, aO, aA, bR) → wY_save_2 post (nI P) (nI Q) op wh nx cu sn sc ou rk pn dn (d + 1) (nI i) bC bB bV bD aS aI aO aA bR := by
  intro d
  induction d with
  | zero =>
    intro i hi bV hp
    obtain rfl : i = 120 := by omega
    rw [cp_e] at hp
    exact br_t (by decide) hp
  | succ d ih =>
    intro i hi bV hp
    have hv : vp_in (nI i) 120 := vp_in_nI (by omega) (by decide)
    refine br_f (nI_ge (b := 120) (by omega) (by decide)) ⟨hv, hv, nm_r (e' := upd bV i (bC i)) (by rw [nI_clamp (n := i) (by omega)]) (nm_r (e' := nI (i + 1)) (nI_1 i) (ih (i + 1) (by omega) _ ?_))⟩
    rw [cp_s (by omega)]
    exact hp
theorem yy_save {post : SY → Prop} (hp : post (nI P, nI Q, op, wh, nx, cu, nx, cu, ou, 0, pn, dn, bC, bB, cp_f bC bV 0 120, bD, aS, aI, aO, aA, bR)) : wpY_save post (nI P, nI Q, op, wh, nx, cu, sn, sc, ou, rk, pn, dn, bC, bB, bV, bD, aS, aI, aO, aA, bR) :=
  Exists.intro 121 (yy_save2 120 0 rfl bV hp)
theorem yy_b210 {post : Int32 → SY → Prop} : ∀ (d i : Nat), i + d = 120 → ∀ (bB : Nat → Int32), wY_begin_210 post (nI P) (nI Q) op wh nx cu sn sc ou rk pn dn 1 (nI 120) bC (cp_f bC bB i 120) bV bD aS aI aO aA bR → wY_begin_210 post (nI P) (nI Q) op wh nx cu sn sc ou rk pn dn (d + 1) (nI i) bC bB bV bD aS aI aO aA bR := by
  intro d
  induction d with
  | zero =>
    intro i hi bB hp
    obtain rfl : i = 120 := by omega
    rw [cp_e] at hp
    exact hp
  | succ d ih =>
    intro i hi bB hp
    have hv : vp_in (nI i) 120 := vp_in_nI (by omega) (by decide)
    refine br_f (nI_ge (b := 120) (by omega) (by decide)) ⟨hv, hv, nm_r (e' := upd bB i (bC i)) (by rw [nI_clamp (n := i) (by omega)]) (nm_r (e' := nI (i + 1)) (nI_1 i) (ih (i + 1) (by omega) _ ?_))⟩
    rw [cp_s (by omega)]
    exact hp
theorem xx_b75 {post : Int32 → SX → Prop} : ∀ (d i : Nat), i + d = 12 → ∀ (aT : Nat → Int32), wX_begin_75 post (nI P) (nI Q) op wh pn nx cu ou dn rk sn sc 1 (nI 12) aC aD aS aI aO aA aR aG (cp_f (fun _ => 0) aT i 12) aJ aK → wX_begin_75 post (nI P) (nI Q) op wh pn nx cu ou dn rk sn sc (d + 1) (nI i) aC aD aS aI aO aA aR aG aT aJ aK := by
  intro d
  induction d with
  | zero =>
    intro i hi aT hp
    obtain rfl : i = 12 := by omega
    rw [cp_e] at hp
    exact hp
  | succ d ih =>
    intro i hi aT hp
    have hv : vp_in (nI i) 12 := vp_in_nI (by omega) (by decide)
    refine br_f (nI_ge (b := 12) (by omega) (by decide)) ⟨hv, nm_r (e' := upd aT i ((fun _ => 0) i)) (by rw [nI_clamp (n := i) (by omega)]; rfl) (nm_r (e' := nI (i + 1)) (nI_1 i) (ih (i + 1) (by omega) _ ?_))⟩
    rw [cp_s (by omega)]
    exact hp
theorem yy_cut17 {post : Int32 → SY → Prop} {x : Int32} (ho : ¬ op = 0) : ∀ (d i : Nat), i + d = 120 → ∀ (bC : Nat → Int32), post x (nI P, nI Q, op, wh, sn, sc, sn, sc, ou, 0, pn, 1, cp_f bV bC i 120, bB, bV, bD, aS, aI, aO, aA, bR) → wY_cut_17 post x (nI P) (nI Q) op wh nx cu sn sc ou rk pn dn (d + 1) (nI i) bC bB bV bD aS aI aO aA bR := by
  intro d
  induction d with
  | zero =>
    intro i hi bC hp
    obtain rfl : i = 120 := by omega
    rw [cp_e] at hp
    exact br_t (by decide) (br_f ho hp)
  | succ d ih =>
    intro i hi bC hp
    have hv : vp_in (nI i) 120 := vp_in_nI (by omega) (by decide)
    refine br_f (nI_ge (b := 120) (by omega) (by decide)) (br_f ho ⟨hv, hv, nm_r (e' := upd bC i (bV i)) (by rw [nI_clamp (n := i) (by omega)]) (nm_r (e' := nI (i + 1)) (nI_1 i) (ih (i + 1) (by omega) _ ?_))⟩)
    rw [cp_s (by omega)]
    exact hp
theorem yy_cut17z {post : Int32 → SY → Prop} {x : Int32} (ho : op = 0) : ∀ (d i : Nat), i + d = 120 → post x (nI P, nI Q, op, wh, nx, cu, sn, sc, ou, 0, pn, 1, bC, bB, bV, bD, aS, aI, aO, aA, bR) → wY_cut_17 post x (nI P) (nI Q) op wh nx cu sn sc ou rk pn dn (d + 1) (nI i) bC bB bV bD aS aI aO aA bR := by
  intro d
  induction d with
  | zero =>
    intro i hi hp
    obtain rfl : i = 120 := by omega
    exact br_t (by decide) (br_t ho hp)
  | succ d ih =>
    intro i hi hp
    exact br_f (nI_ge (b := 120) (by omega) (by decide)) (br_t ho (nm_r (e' := nI (i + 1)) (nI_1 i) (ih (i + 1) (by omega) hp)))
theorem xx_cut22 {post : Int32 → SX → Prop} {x : Int32} : ∀ (r : Nat), r ≤ 24 → ∀ (aC : Nat → Int32), (∀ i, i < r → vp_in (aJ i) 24) → post x (nI P, nI Q, op, wh, pn, sn, sc, ou, 1, 0, sn, sc, rl_un aJ aK r aC, aD, aS, aI, aO, aA, aR, aG, aT, aJ, aK) → wX_cut_22 post x (nI P) (nI Q) op wh pn nx cu ou dn rk sn sc (r + 1) (nI r - 1) aC aD aS aI aO aA aR aG aT aJ aK := by
  intro r
  induction r with
  | zero =>
    intro _ aC _ hp
    exact br_t (by decide) hp
  | succ r ih =>
    intro hr aC hj hp
    rw [nI_pred]
    have hv : vp_in (nI r) 24 := vp_in_nI (by omega) (by decide)
    have ec : (nI r).toNatClampNeg = r := nI_clamp (by omega)
    refine br_f (nI_pos (by omega)) ⟨hv, hv, ?_⟩
    rw [ec]
    exact ⟨hj r (by omega), nm_e (nm_r (e' := nI r - 1) (Int32.sub_eq_add_neg _ _).symm (ih (by omega) _ (fun i hi => hj i (by omega)) hp))⟩
theorem xx_o51 {post : Int32 → SX → Prop} {j : Nat} (hj : j < 6) : ∀ (d i : Nat), i + d = 12 → ∀ (aA : Nat → Int32), post 0 (nI P, nI Q, op, wh, pn, nx, cu, ou, dn, rk, sn, sc, aC, aD, aS, aI, aO, cp_f (fun _ => 0) aA (12 * j + i) (12 * j + 12), aR, aG, aT, aJ, aK) → wX_offer_51 post (nI j) (nI P) (nI Q) op wh pn nx cu ou dn rk sn sc (d + 1) (nI i) aC aD aS aI aO aA aR aG aT aJ aK := by
  intro d
  induction d with
  | zero =>
    intro i hi aA hp
    obtain rfl : i = 12 := by omega
    rw [cp_e] at hp
    exact br_t (by decide) hp
  | succ d ih =>
    intro i hi aA hp
    refine br_f (nI_ge (b := 12) (by omega) (by decide)) ?_
    rw [ix_12x, nI_clamp (n := 12 * j + i) (by omega)]
    refine ⟨vp_in_nI (by omega) (by decide), nm_r (e' := upd aA (12 * j + i) ((fun _ => 0) (12 * j + i))) rfl (nm_r (e' := nI (i + 1)) (nI_1 i) (ih (i + 1) (by omega) _ ?_))⟩
    rw [show 12 * j + (i + 1) = (12 * j + i) + 1 from rfl, cp_s (by omega)]
    exact hp
theorem yy_o49 {post : Int32 → SY → Prop} {j : Nat} (hj : j < 6) : ∀ (d i : Nat), i + d = 12 → ∀ (aA : Nat → Int32), post 0 (nI P, nI Q, op, wh, nx, cu, sn, sc, ou, rk, pn, dn, bC, bB, bV, bD, aS, aI, aO, cp_f (fun _ => 0) aA (12 * j + i) (12 * j + 12), bR) → wY_offer_49 post (nI j) (nI P) (nI Q) op wh nx cu sn sc ou rk pn dn (d + 1) (nI i) bC bB bV bD aS aI aO aA bR := by
  intro d
  induction d with
  | zero =>
    intro i hi aA hp
    obtain rfl : i = 12 := by omega
    rw [cp_e] at hp
    exact br_t (by decide) hp
  | succ d ih =>
    intro i hi aA hp
    refine br_f (nI_ge (b := 12) (by omega) (by decide)) ?_
    rw [ix_12y, nI_clamp (n := 12 * j + i) (by omega)]
    refine ⟨vp_in_nI (by omega) (by decide), nm_r (e' := upd aA (12 * j + i) ((fun _ => 0) (12 * j + i))) rfl (nm_r (e' := nI (i + 1)) (nI_1 i) (ih (i + 1) (by omega) _ ?_))⟩
    rw [show 12 * j + (i + 1) = (12 * j + i) + 1 from rfl, cp_s (by omega)]
    exact hp
end
end
section
/-! ===== the least qualifying path: firstFrom against qualifying ===== -/
section
variable {P Q : Nat} {op wh pn nx cu ou dn rk sn sc rj : Int32} {aC aD aS aI aO aA aR aG aT aJ aK bC bB bV bD bR : Nat → Int32}
/-- does path q qualify (e: its entry in the archive, v: its cell) -/
def qz_P (op kd wh e v : Int32) : Prop := (kd = 4 ∧ ¬ e = 0) ∨ (kd = 8 ∧ cl_ow v = wh ∧ ¬ cl_pe v = 0) ∨ (kd = 7 ∧ cl_ow v = wh ∧ (op = 4 ∨ ((cl_cf v = 0 ∨ ¬ cl_pe v = 0) ∧ (op = 3 ∨ e = 0))))
theorem qz_4 {op wh e v : Int32} : qz_P op 4 wh e v ↔ ¬ e = 0 := by
  unfold qz_P
  constructor
  · rintro (⟨_, h⟩ | ⟨h, _⟩ | ⟨h, _⟩)
    · exact h
    · exact absurd h (by decide)
    · exact absurd h (by decide)
  · exact fun h => Or.inl ⟨rfl, h⟩
theorem qz_8 {op wh e v : Int32} : qz_P op 8 wh e v ↔ cl_ow v = wh ∧ ¬ cl_pe v = 0 := by
  unfold qz_P
  constructor
  · rintro (⟨h, _⟩ | ⟨_, h⟩ | ⟨h, _⟩)
    · exact absurd h (by decide)
    · exact h
    · exact absurd h (by decide)
  · exact fun h => Or.inr (Or.inl ⟨rfl, h⟩)
theorem qz_7 {op wh e v : Int32} : qz_P op 7 wh e v ↔ cl_ow v = wh ∧ (op = 4 ∨ ((cl_cf v = 0 ∨ ¬ cl_pe v = 0) ∧ (op = 3 ∨ e = 0))) := by
  unfold qz_P
  constructor
  · rintro (⟨h, _⟩ | ⟨h, _⟩ | ⟨_, h⟩)
    · exact absurd h (by decide)
    · exact absurd h (by decide)
    · exact h
  · exact fun h => Or.inr (Or.inr ⟨rfl, h⟩)
theorem xx_q110 {post : Int32 → Prop} {v : Int32} (h1 : (cl_cf v = 0 ∨ ¬ cl_pe v = 0) → post 1) (h0 : ¬ (cl_cf v = 0 ∨ ¬ cl_pe v = 0) → post 0) : wX_qualifies_110 post v (nI P) (nI Q) op wh pn nx cu ou dn rk sn sc aC aD aS aI aO aA aR aG aT aJ aK := by
  unfold wX_qualifies_110
  by_cases hc : cl_cf v = 0
  · exact xx_cf (br_t hc (h1 (Or.inl hc)))
  · by_cases hp : cl_pe v = 0
    · exact xx_cf (br_f hc (xx_pe (br_t hp (h0 (fun z => z.elim hc (fun y => y hp))))))
    · exact xx_cf (br_f hc (xx_pe (br_f hp (h1 (Or.inr hp)))))
/-- X: one path -/
theorem xx_qual {post : Int32 → Prop} {kd : Int32} {w q : Nat} (hw : w < 6) (hq : q < Q) (hQ : Q ≤ 12) (hD : bD q = aD q - 1) (hk : kd = 4 ∨ kd = 8 ∨ (kd = 7 ∧ (op = 1 ∨ op = 3 ∨ op = 4)))
    (h1 : qz_P op kd (nI w) (aA (12 * w + q)) (aC (rl_pl Q bD (nI w) q)) → post 1) (h0 : ¬ qz_P op kd (nI w) (aA (12 * w + q)) (aC (rl_pl Q bD (nI w) q)) → post 0) :
    wpX_qualifies post (nI P, nI Q, op, nI w, pn, nx, cu, ou, dn, rk, sn, sc, aC, aD, aS, aI, aO, aA, aR, aG, aT, aJ, aK) kd (nI q) := by
  have hpl : rl_pl Q bD (nI w) q < 24 := Nat.lt_of_lt_of_le (rl_pl_lt hq) (by omega)
  have hv : vp_in (nI (rl_pl Q bD (nI w) q)) 24 := vp_in_nI hpl (by decide)
  unfold wpX_qualifies
  dsimp only
  rw [ix_12x, nI_clamp (n := 12 * w + q) (by omega)]
  refine ⟨vp_in_nI (by omega) (by decide), ?_⟩
  rcases hk with rfl | rfl | ⟨rfl, hop⟩
  · rw [qz_4] at h1 h0
    exact br_c (fun z => br_t rfl ⟨rfl, h0 (fun y => y z)⟩) (fun z => br_t rfl ⟨rfl, h1 z⟩)
  · rw [qz_8] at h1 h0
    have H : ∀ z, wX_qualifies_22 post 8 (nI q) z (nI P) (nI Q) op (nI w) pn nx cu ou dn rk sn sc aC aD aS aI aO aA aR aG aT aJ aK := by
      intro z
      refine br_f (by decide) (xx_place (by omega) hD ⟨hv, ?_⟩)
      rw [nI_clamp (n := rl_pl Q bD (nI w) q) (by omega)]
      refine nm_e (xx_ow ?_)
      by_cases ho : cl_ow (aC (rl_pl Q bD (nI w) q)) = nI w
      · refine br_t ho (br_t rfl (xx_pe ?_))
        by_cases hp : cl_pe (aC (rl_pl Q bD (nI w) q)) = 0
        · exact br_t hp (h0 (fun y => y.2 hp))
        · exact br_f hp (h1 ⟨ho, hp⟩)
      · exact br_f ho (h0 (fun y => ho y.1))
    exact br_c (fun _ => H 0) (fun _ => H 1)
  · rw [qz_7] at h1 h0
    have H : ∀ z : Int32, ((z = 0 ∧ aA (12 * w + q) = 0) ∨ (¬ z = 0 ∧ ¬ aA (12 * w + q) = 0)) → wX_qualifies_22 post 7 (nI q) z (nI P) (nI Q) op (nI w) pn nx cu ou dn rk sn sc aC aD aS aI aO aA aR aG aT aJ aK := by
      intro z hz
      refine br_f (by decide) (xx_place (by omega) hD ⟨hv, ?_⟩)
      rw [nI_clamp (n := rl_pl Q bD (nI w) q) (by omega)]
      refine nm_e (xx_ow ?_)
      by_cases ho : cl_ow (aC (rl_pl Q bD (nI w) q)) = nI w
      · refine br_t ho (br_f (by decide) ?_)
        by_cases h4 : op = 4
        · exact br_t h4 (h1 ⟨ho, Or.inl h4⟩)
        · refine br_f h4 ?_
          by_cases ho1 : op = 1
          · have h3 : ¬ op = 3 := fun y => absurd (ho1.symm.trans y) (by decide)
            refine br_t ho1 ?_
            rcases hz with ⟨z0, e0⟩ | ⟨z0, e0⟩
            · exact br_t z0 (xx_q110 (fun y => h1 ⟨ho, Or.inr ⟨y, Or.inr e0⟩⟩) (fun y => h0 (fun x => x.2.elim h4 (fun t => y t.1))))
            · exact br_f z0 (h0 (fun x => x.2.elim h4 (fun t => t.2.elim h3 e0)))
          · have h3 : op = 3 := (hop.resolve_left ho1).resolve_right h4
            exact br_f ho1 (xx_q110 (fun y => h1 ⟨ho, Or.inr ⟨y, Or.inl h3⟩⟩) (fun y => h0 (fun x => x.2.elim h4 (fun t => y t.1))))
      · exact br_f ho (h0 (fun y => ho y.1))
    exact br_c (fun y => H 0 (Or.inl ⟨rfl, y⟩)) (fun y => H 1 (Or.inr ⟨by decide, y⟩))
/-- Y: from row 93 on -/
theorem yy_q93 {post : Int32 → Prop} {J : Int32 → Prop} {kd x4 e o d : Int32} {w q : Nat} {v : Int32} (hk : kd = 4 ∨ kd = 8 ∨ (kd = 7 ∧ (op = 1 ∨ op = 3 ∨ op = 4)))
    (he : e = 0 ↔ aA (12 * w + q) = 0) (ho : o = 0 ↔ ¬ cl_ow v = nI w) (hd : d = 0 ↔ ¬ (cl_cf v = 0 ∨ ¬ cl_pe v = 0)) (h4 : vp_in (x4 + 4) 120) (ep : bC (x4 + 4).toNatClampNeg = cl_pe v)
    (h1 : qz_P op kd (nI w) (aA (12 * w + q)) v → post (nI q)) (h0 : ¬ qz_P op kd (nI w) (aA (12 * w + q)) v → J (nI (q + 1))) :
    wY_qualifying_93 post J kd (nI q) x4 e o d (nI P) (nI Q) op (nI w) nx cu sn sc ou rj pn dn bC bB bV bD aS aI aO aA bR := by
  rcases hk with rfl | rfl | ⟨rfl, hop⟩
  · rw [qz_4] at h1 h0
    refine br_t rfl (br_c (fun z => ?_) (fun z => h1 (fun y => z (he.mpr y))))
    exact br_f (by decide) (br_f (by decide) (nm_r (nI_1 q) (h0 (fun y => y (he.mp z)))))
  · rw [qz_8] at h1 h0
    refine br_f (by decide) (br_t rfl (br_c (fun z => ?_) (fun z => ⟨h4, ?_⟩)))
    · exact br_f (by decide) (nm_r (nI_1 q) (h0 (fun y => ho.mp z y.1)))
    · rw [ep]
      refine br_c (fun y => br_f (by decide) (nm_r (nI_1 q) (h0 (fun t => t.2 y)))) (fun y => h1 ⟨?_, y⟩)
      exact Decidable.byContradiction (fun t => z (ho.mpr t))
  · rw [qz_7] at h1 h0
    refine br_f (by decide) (br_f (by decide) (br_t rfl (br_c (fun z => nm_r (nI_1 q) (h0 (fun y => ho.mp z y.1))) (fun z => ?_))))
    have how : cl_ow v = nI w := Decidable.byContradiction (fun t => z (ho.mpr t))
    refine br_c (fun y => h1 ⟨how, Or.inl y⟩) (fun y4 => ?_)
    refine br_c (fun y => nm_r (nI_1 q) (h0 (fun t => t.2.elim y4 (fun s => hd.mp y s.1)))) (fun yd => ?_)
    have hdu : cl_cf v = 0 ∨ ¬ cl_pe v = 0 := Decidable.byContradiction (fun t => yd (hd.mpr t))
    refine br_c (fun y => h1 ⟨how, Or.inr ⟨hdu, Or.inl y⟩⟩) (fun y3 => ?_)
    exact br_c (fun y => h1 ⟨how, Or.inr ⟨hdu, Or.inr (he.mp y)⟩⟩) (fun y => nm_r (nI_1 q) (h0 (fun t => t.2.elim y4 (fun s => s.2.elim y3 (fun u => y (he.mpr u))))))
theorem yy_qual {post : Int32 → Prop} {kd : Int32} {w q n : Nat} (hw : w < 6) (hq : q < Q) (hQ : Q ≤ 12) (hE : cl_E aC bC) (hk : kd = 4 ∨ kd = 8 ∨ (kd = 7 ∧ (op = 1 ∨ op = 3 ∨ op = 4)))
    (h1 : qz_P op kd (nI w) (aA (12 * w + q)) (aC (rl_pl Q bD (nI w) q)) → post (nI q)) (h0 : ¬ qz_P op kd (nI w) (aA (12 * w + q)) (aC (rl_pl Q bD (nI w) q)) → wY_qualifying_2 post kd (nI P) (nI Q) op (nI w) nx cu sn sc ou rj pn dn bC bB bV bD aS aI aO aA bR n (nI (q + 1))) :
    wY_qualifying_2 post kd (nI P) (nI Q) op (nI w) nx cu sn sc ou rj pn dn bC bB bV bD aS aI aO aA bR (n + 1) (nI q) := by
  have hpl : rl_pl Q bD (nI w) q < 24 := Nat.lt_of_lt_of_le (rl_pl_lt hq) (by omega)
  refine br_f (nI_ge hq (by omega)) (yy_at (by omega) ?_)
  rw [ix_12y, nI_clamp (n := 12 * w + q) (by omega)]
  obtain ⟨_, e1, _, e3, e4, _⟩ := hE _ hpl
  generalize rl_pl Q bD (nI w) q = p at *
  have i1 : nI (5 * p) + 1 = nI (5 * p + 1) := nI_1 _
  have i3 : nI (5 * p) + 3 = nI (5 * p + 3) := nI_add _ 3
  have i4 : nI (5 * p) + 4 = nI (5 * p + 4) := nI_add _ 4
  have c1 : (nI (5 * p) + 1).toNatClampNeg = 5 * p + 1 := by rw [i1]; exact nI_clamp (by omega)
  have c3 : (nI (5 * p) + 3).toNatClampNeg = 5 * p + 3 := by rw [i3]; exact nI_clamp (by omega)
  have c4 : (nI (5 * p) + 4).toNatClampNeg = 5 * p + 4 := by rw [i4]; exact nI_clamp (by omega)
  have v1 : vp_in (nI (5 * p) + 1) 120 := by rw [i1]; exact vp_in_nI (by omega) (by decide)
  have v3 : vp_in (nI (5 * p) + 3) 120 := by rw [i3]; exact vp_in_nI (by omega) (by decide)
  have v4 : vp_in (nI (5 * p) + 4) 120 := by rw [i4]; exact vp_in_nI (by omega) (by decide)
  have b1 : bC (nI (5 * p) + 1).toNatClampNeg = cl_ow (aC p) := by rw [c1, e1]
  have b3 : bC (nI (5 * p) + 3).toNatClampNeg = cl_cf (aC p) := by rw [c3, e3]
  have b4 : bC (nI (5 * p) + 4).toNatClampNeg = cl_pe (aC p) := by rw [c4, e4]
  have H62 : ∀ e o : Int32, (e = 0 ↔ aA (12 * w + q) = 0) → (o = 0 ↔ ¬ cl_ow (aC p) = nI w) → wY_qualifying_62 post (wY_qualifying_2 post kd (nI P) (nI Q) op (nI w) nx cu sn sc ou rj pn dn bC bB bV bD aS aI aO aA bR n) kd (nI q) (nI (5 * p)) e o (nI P) (nI Q) op (nI w) nx cu sn sc ou rj pn dn bC bB bV bD aS aI aO aA bR := by
    intro e o he ho
    refine And.intro v3 ?_
    rw [b3]
    refine br_c (fun z => yy_q93 hk he ho ⟨fun y => absurd y (by decide), fun y => absurd (Or.inl z) y⟩ v4 b4 h1 h0) (fun z => ⟨v4, ?_⟩)
    rw [b4]
    refine br_c (fun y => yy_q93 hk he ho ⟨fun _ t => t.elim z (fun s => s y), fun _ => rfl⟩ v4 b4 h1 h0) (fun y => yy_q93 hk he ho ⟨fun t => absurd t (by decide), fun t => absurd (Or.inr y) t⟩ v4 b4 h1 h0)
  have H39 : ∀ e : Int32, (e = 0 ↔ aA (12 * w + q) = 0) → wY_qualifying_39 post (wY_qualifying_2 post kd (nI P) (nI Q) op (nI w) nx cu sn sc ou rj pn dn bC bB bV bD aS aI aO aA bR n) kd (nI q) (nI (5 * p)) e (nI P) (nI Q) op (nI w) nx cu sn sc ou rj pn dn bC bB bV bD aS aI aO aA bR := by
    intro e he
    refine And.intro v1 ?_
    rw [b1]
    exact br_c (fun z => H62 e 1 he ⟨fun y => absurd y (by decide), fun y => absurd z y⟩) (fun z => H62 e 0 he ⟨fun _ => z, fun _ => rfl⟩)
  exact ⟨vp_in_nI (by omega) (by decide), br_c (fun z => H39 0 ⟨fun _ => z, fun _ => rfl⟩) (fun z => H39 1 ⟨fun y => absurd y (by decide), fun y => absurd y z⟩)⟩
theorem lk_scan {kd : Int32} {w : Nat} (hw : w < 6) (hQ : Q ≤ 12) (hD : rl_D aD bD) (hE : cl_E aC bC) (hk : kd = 4 ∨ kd = 8 ∨ (kd = 7 ∧ (op = 1 ∨ op = 3 ∨ op = 4))) :
    ∀ (d q : Nat), q + d = Q → ∃ r : Int32, (r = -1 ∨ ∃ c : Nat, q ≤ c ∧ c < Q ∧ r = nI c) ∧ (∀ post : Int32 → Prop, post r → wX_firstFrom_12 post kd (nI P) (nI Q) op (nI w) pn nx cu ou dn rk sn sc aC aD aS aI aO aA aR aG aT aJ aK (d + 1) (nI q)) ∧ (∀ post : Int32 → Prop, post r → wY_qualifying_2 post kd (nI P) (nI Q) op (nI w) nx cu sn sc ou rj pn dn bC bB bV bD aS aI aO aA bR (d + 1) (nI q)) := by
  intro d
  induction d with
  | zero =>
    intro q hq
    have h : nI Q ≤ nI q := nI_le (by omega) (by omega)
    exact ⟨-1, Or.inl rfl, fun _ hp => br_t h hp, fun _ hp => br_t h hp⟩
  | succ d ih =>
    intro q hq
    have hlt : q < Q := by omega
    have hDq : bD q = aD q - 1 := by
      obtain ⟨e, _, ea, eb⟩ := hD q (by omega)
      rw [ea, eb]
    by_cases hz : qz_P op kd (nI w) (aA (12 * w + q)) (aC (rl_pl Q bD (nI w) q))
    · refine ⟨nI q, Or.inr ⟨q, by omega, hlt, rfl⟩, fun post hp => ?_, fun post hp => ?_⟩
      · exact br_f (nI_ge hlt (by omega)) (xx_qual hw hlt hQ hDq hk (fun _ => br_f (by decide) hp) (fun y => absurd hz y))
      · exact yy_qual hw hlt hQ hE hk (fun _ => hp) (fun y => absurd hz y)
    · obtain ⟨r, hr, hX, hY⟩ := ih (q + 1) (by omega)
      refine ⟨r, ?_, fun post hp => ?_, fun post hp => ?_⟩
      · rcases hr with h | ⟨c, h1, h2, h3⟩
        · exact Or.inl h
        · exact Or.inr ⟨c, by omega, h2, h3⟩
      · exact br_f (nI_ge hlt (by omega)) (xx_qual hw hlt hQ hDq hk (fun y => absurd y hz) (fun _ => br_t rfl (nm_r (e' := nI (q + 1)) (nI_1 q) (hX post hp))))
      · exact yy_qual hw hlt hQ hE hk (fun y => absurd y hz) (fun _ => hY post hp)
theorem lk_first {kd : Int32} {w q : Nat} (hw : w < 6) (hq : q ≤ Q) (hQ : Q ≤ 12) (hD : rl_D aD bD) (hE : cl_E aC bC) (hk : kd = 4 ∨ kd = 8 ∨ (kd = 7 ∧ (op = 1 ∨ op = 3 ∨ op = 4))) :
    ∃ r : Int32, (r = -1 ∨ ∃ c : Nat, q ≤ c ∧ c < Q ∧ r = nI c) ∧ (∀ post : Int32 → Prop, post r → wpX_firstFrom post (nI P, nI Q, op, nI w, pn, nx, cu, ou, dn, rk, sn, sc, aC, aD, aS, aI, aO, aA, aR, aG, aT, aJ, aK) kd (nI q)) ∧ (∀ post : Int32 → Prop, post r → wpY_qualifying post (nI P, nI Q, op, nI w, nx, cu, sn, sc, ou, rj, pn, dn, bC, bB, bV, bD, aS, aI, aO, aA, bR) kd (nI q)) := by
  obtain ⟨r, hr, hX, hY⟩ := lk_scan (P := P) (pn := pn) (nx := nx) (cu := cu) (ou := ou) (dn := dn) (rk := rk) (rj := rj) (sn := sn) (sc := sc) (aS := aS) (aI := aI) (aO := aO) (aA := aA) (aR := aR) (aG := aG) (aT := aT) (aJ := aJ) (aK := aK) (bB := bB) (bV := bV) (bR := bR) hw hQ hD hE hk (Q - q) q (by omega)
  refine ⟨r, hr, fun post hp => ?_, fun post hp => Exists.intro _ (hY post hp)⟩
  have hrun : kd = 4 ∨ kd = 7 ∨ kd = 8 := by
    rcases hk with h | h | ⟨h, _⟩
    · exact Or.inl h
    · exact Or.inr (Or.inr h)
    · exact Or.inr (Or.inl h)
  unfold wpX_firstFrom
  exact xx_run1 hrun (br_f (by decide) ⟨_, hX post hp⟩)
theorem xx_first0 {post : Int32 → Prop} {kd f : Int32} (h4 : ¬ kd = 4) (h7 : ¬ kd = 7) (h8 : ¬ kd = 8) (hp : post (-1)) : wpX_firstFrom post (nI P, nI Q, op, wh, pn, nx, cu, ou, dn, rk, sn, sc, aC, aD, aS, aI, aO, aA, aR, aG, aT, aJ, aK) kd f := by
  unfold wpX_firstFrom
  exact xx_run0 h4 h7 h8 (br_t rfl hp)
end
end
section
/-! ===== the forward order: enter against forward ===== -/
def fw_run (k : Int32) : Prop := k = 4 ∨ k = 7 ∨ k = 8
def fw_r (k : Int32) : Int32 := if k = 4 ∨ k = 7 ∨ k = 8 then 1 else 0
theorem fw_r1 {k : Int32} (h : fw_run k) : fw_r k = 1 := if_pos h
theorem fw_r0 {k : Int32} (h : ¬ fw_run k) : fw_r k = 0 := if_neg h
def fw_dp (k : Int32) : Nat := if k = 4 then 2 else if k = 7 ∨ k = 8 then 1 else 0
def fw_al (op k : Int32) : Prop :=
  (op = 1 ∧ (k = 1 ∨ k = 2 ∨ k = 3 ∨ k = 4 ∨ k = 5 ∨ k = 6 ∨ k = 7 ∨ k = 10)) ∨ (op = 2 ∧ (k = 8 ∨ k = 9 ∨ k = 10)) ∨ (op = 3 ∧ (k = 1 ∨ k = 5 ∨ k = 7 ∨ k = 10)) ∨ (op = 4 ∧ (k = 5 ∨ k = 7 ∨ k = 10))
/-- where the forward order can stand -/
def fw_at (Q : Nat) (op k r : Int32) : Prop := fw_al op k ∧ ((fw_run k ∧ ∃ c : Nat, c < Q ∧ r = nI c) ∨ (¬ fw_run k ∧ r = -1))
theorem fw_al_rl {op k : Int32} (h : fw_al op k) : rl_al op k := by
  rcases h with ⟨h, g⟩ | ⟨h, g⟩ | ⟨h, g⟩ | ⟨h, g⟩
  · refine Or.inl ⟨h, ?_⟩
    rcases g with g | g | g | g | g | g | g | g <;> subst g <;> decide
  · exact Or.inr (Or.inl ⟨h, g⟩)
  · refine Or.inr (Or.inr (Or.inl ⟨h, ?_⟩))
    rcases g with g | g | g | g <;> subst g <;> decide
  · exact Or.inr (Or.inr (Or.inr ⟨h, g⟩))
theorem fw_al_12 {op k : Int32} (h : fw_al op k) : ¬ k = 12 := by
  rcases h with ⟨_, g⟩ | ⟨_, g⟩ | ⟨_, g⟩ | ⟨_, g⟩
  · rcases g with g | g | g | g | g | g | g | g <;> subst g <;> decide
  · rcases g with g | g | g <;> subst g <;> decide
  · rcases g with g | g | g | g <;> subst g <;> decide
  · rcases g with g | g | g <;> subst g <;> decide
theorem fw_fi {op k : Int32} (h : fw_al op k) : rl_fi k ↔ fw_run k := by
  constructor
  · rintro (e | e | e | e)
    · exact Or.inl e
    · exact Or.inr (Or.inl e)
    · exact Or.inr (Or.inr e)
    · exact absurd e (fw_al_12 h)
  · rintro (e | e | e)
    · exact Or.inl e
    · exact Or.inr (Or.inl e)
    · exact Or.inr (Or.inr (Or.inl e))
theorem fw_pos {Q : Nat} {op k r : Int32} (h : fw_at Q op k r) : rl_Pos Q op k r := by
  refine ⟨fw_al_rl h.1, ?_⟩
  rcases h.2 with ⟨a, b⟩ | ⟨a, b⟩
  · exact Or.inl ⟨(fw_fi h.1).mpr a, b⟩
  · exact Or.inr ⟨fun z => a ((fw_fi h.1).mp z), b⟩
theorem fw_scan {op k : Int32} (h : fw_al op k) (g : fw_run k) : k = 4 ∨ k = 8 ∨ (k = 7 ∧ (op = 1 ∨ op = 3 ∨ op = 4)) := by
  rcases g with g | g | g
  · exact Or.inl g
  · refine Or.inr (Or.inr ⟨g, ?_⟩)
    subst g
    rcases h with ⟨h, _⟩ | ⟨_, h⟩ | ⟨h, _⟩ | ⟨h, _⟩
    · exact Or.inl h
    · rcases h with h | h | h <;> exact absurd h (by decide)
    · exact Or.inr (Or.inl h)
    · exact Or.inr (Or.inr h)
  · exact Or.inr (Or.inl g)
theorem fw_dp0 {k : Int32} (h : fw_run k) : 0 < fw_dp k := by
  rcases h with h | h | h <;> subst h <;> decide
theorem fw_dp2 (k : Int32) : fw_dp k ≤ 2 := by
  unfold fw_dp
  by_cases h : k = 4
  · rw [if_pos h]; omega
  · rw [if_neg h]
    by_cases h2 : k = 7 ∨ k = 8
    · rw [if_pos h2]; omega
    · rw [if_neg h2]; omega
section
variable {P Q : Nat} {op wh pn nx cu ou dn rk sn sc rj : Int32} {aC aD aS aI aO aA aR aG aT aJ aK bC bB bV bD bR : Nat → Int32}
theorem yy_fo {post : Int32 → Prop} {kd : Int32} {w : Nat} (hw : w < 6) (h0 : aS w < 3 → wY_following_18 post kd 0 (nI P) (nI Q) op (nI w) nx cu sn sc ou rj pn dn bC bB bV bD aS aI aO aA bR) (h1 : ¬ aS w < 3 → wY_following_18 post kd 1 (nI P) (nI Q) op (nI w) nx cu sn sc ou rj pn dn bC bB bV bD aS aI aO aA bR) : wpY_following post (nI P, nI Q, op, nI w, nx, cu, sn, sc, ou, rj, pn, dn, bC, bB, bV, bD, aS, aI, aO, aA, bR) kd := by
  refine And.intro (vp_in_nI hw (by decide)) ?_
  rw [nI_clamp (n := w) (by omega)]
  exact br_c h0 h1
set_option maxHeartbeats 4000000 in
theorem lk_fo {kd : Int32} {w : Nat} (hw : w < 6) (h : fw_al op kd) (h10 : ¬ kd = 10) :
    ∃ k : Int32, fw_al op k ∧ (fw_dp kd = 0 ∨ fw_dp k < fw_dp kd) ∧ (∀ post : Int32 → Prop, post k → wpX_following post (nI P, nI Q, op, nI w, pn, nx, cu, ou, dn, rk, sn, sc, aC, aD, aS, aI, aO, aA, aR, aG, aT, aJ, aK) kd) ∧ (∀ post : Int32 → Prop, post k → wpY_following post (nI P, nI Q, op, nI w, nx, cu, sn, sc, ou, rj, pn, dn, bC, bB, bV, bD, aS, aI, aO, aA, bR) kd) := by
  rcases h with ⟨rfl, g⟩ | ⟨rfl, g⟩ | ⟨rfl, g⟩ | ⟨rfl, g⟩
  · rcases g with rfl | rfl | rfl | rfl | rfl | rfl | rfl | rfl
    · exact ⟨3, Or.inl ⟨rfl, by decide⟩, Or.inl (by decide), fun post hp => br_t rfl (br_f (by decide) (br_f (by decide) (br_t rfl hp))), fun post hp => yy_fo hw (fun _ => br_f (by decide) (br_t rfl (br_t rfl (br_f (by decide) (br_f (by decide) (br_t rfl hp)))))) (fun _ => br_f (by decide) (br_t rfl (br_t rfl (br_f (by decide) (br_f (by decide) (br_t rfl hp))))))⟩
    · exact ⟨3, Or.inl ⟨rfl, by decide⟩, Or.inl (by decide), fun post hp => br_t rfl (br_f (by decide) (br_f (by decide) (br_f (by decide) (br_t rfl hp)))), fun post hp => yy_fo hw (fun _ => br_f (by decide) (br_t rfl (br_t rfl (br_f (by decide) (br_f (by decide) (br_f (by decide) (br_t rfl hp))))))) (fun _ => br_f (by decide) (br_t rfl (br_t rfl (br_f (by decide) (br_f (by decide) (br_f (by decide) (br_t rfl hp)))))))⟩
    · exact ⟨4, Or.inl ⟨rfl, by decide⟩, Or.inl (by decide), fun post hp => br_t rfl (br_f (by decide) (br_f (by decide) (br_f (by decide) (br_f (by decide) (br_t rfl hp))))), fun post hp => yy_fo hw (fun _ => br_f (by decide) (br_t rfl (br_t rfl (br_f (by decide) (br_f (by decide) (br_f (by decide) (br_f (by decide) (br_t rfl hp)))))))) (fun _ => br_f (by decide) (br_t rfl (br_t rfl (br_f (by decide) (br_f (by decide) (br_f (by decide) (br_f (by decide) (br_t rfl hp))))))))⟩
    · by_cases hu : aS w < 3
      · exact ⟨7, Or.inl ⟨rfl, by decide⟩, Or.inr (by decide), fun post hp => br_t rfl (br_f (by decide) (br_f (by decide) (br_f (by decide) (br_f (by decide) (br_f (by decide) (br_t rfl (xx_upg hw (fun _ => br_t rfl hp) (fun z => absurd hu z)))))))), fun post hp => yy_fo hw (fun _ => br_f (by decide) (br_t rfl (br_t rfl (br_f (by decide) (br_f (by decide) (br_f (by decide) (br_f (by decide) (br_f (by decide) (br_t rfl (br_t rfl (br_f (by decide) hp))))))))))) (fun z => absurd hu z)⟩
      · exact ⟨5, Or.inl ⟨rfl, by decide⟩, Or.inr (by decide), fun post hp => br_t rfl (br_f (by decide) (br_f (by decide) (br_f (by decide) (br_f (by decide) (br_f (by decide) (br_t rfl (xx_upg hw (fun z => absurd z hu) (fun _ => br_f (by decide) hp)))))))), fun post hp => yy_fo hw (fun z => absurd z hu) (fun _ => br_f (by decide) (br_t rfl (br_t rfl (br_f (by decide) (br_f (by decide) (br_f (by decide) (br_f (by decide) (br_f (by decide) (br_t rfl (br_f (by decide) hp))))))))))⟩
    · exact ⟨7, Or.inl ⟨rfl, by decide⟩, Or.inl (by decide), fun post hp => br_t rfl (br_f (by decide) (br_f (by decide) (br_f (by decide) (br_f (by decide) (br_f (by decide) (br_f (by decide) (br_t rfl hp))))))), fun post hp => yy_fo hw (fun _ => br_f (by decide) (br_t rfl (br_t rfl (br_f (by decide) (br_f (by decide) (br_f (by decide) (br_f (by decide) (br_f (by decide) (br_f (by decide) (br_f (by decide) hp)))))))))) (fun _ => br_f (by decide) (br_t rfl (br_t rfl (br_f (by decide) (br_f (by decide) (br_f (by decide) (br_f (by decide) (br_f (by decide) (br_f (by decide) (br_f (by decide) hp))))))))))⟩
    · exact ⟨7, Or.inl ⟨rfl, by decide⟩, Or.inl (by decide), fun post hp => br_t rfl (br_f (by decide) (br_f (by decide) (br_f (by decide) (br_f (by decide) (br_f (by decide) (br_f (by decide) (br_f (by decide) (br_t rfl hp)))))))), fun post hp => yy_fo hw (fun _ => br_f (by decide) (br_t rfl (br_t rfl (br_f (by decide) (br_f (by decide) (br_f (by decide) (br_f (by decide) (br_f (by decide) (br_f (by decide) (br_f (by decide) hp)))))))))) (fun _ => br_f (by decide) (br_t rfl (br_t rfl (br_f (by decide) (br_f (by decide) (br_f (by decide) (br_f (by decide) (br_f (by decide) (br_f (by decide) (br_f (by decide) hp))))))))))⟩
    · exact ⟨10, Or.inl ⟨rfl, by decide⟩, Or.inr (by decide), fun post hp => br_t rfl (br_f (by decide) (br_t (by decide) hp)), fun post hp => yy_fo hw (fun _ => br_f (by decide) (br_t rfl (br_t rfl (br_f (by decide) (br_f (by decide) (br_f (by decide) (br_f (by decide) (br_f (by decide) (br_f (by decide) (br_t rfl hp)))))))))) (fun _ => br_f (by decide) (br_t rfl (br_t rfl (br_f (by decide) (br_f (by decide) (br_f (by decide) (br_f (by decide) (br_f (by decide) (br_f (by decide) (br_t rfl hp))))))))))⟩
    · exact absurd rfl h10
  · rcases g with rfl | rfl | rfl
    · exact ⟨9, Or.inr (Or.inl ⟨rfl, by decide⟩), Or.inr (by decide), fun post hp => br_f (by decide) (br_t rfl (br_t rfl hp)), fun post hp => yy_fo hw (fun _ => br_t rfl (br_f (by decide) (br_t rfl hp))) (fun _ => br_t rfl (br_f (by decide) (br_t rfl hp)))⟩
    · exact ⟨10, Or.inr (Or.inl ⟨rfl, by decide⟩), Or.inl (by decide), fun post hp => br_f (by decide) (br_t rfl (br_f (by decide) hp)), fun post hp => yy_fo hw (fun _ => br_t rfl (br_f (by decide) (br_f (by decide) hp))) (fun _ => br_t rfl (br_f (by decide) (br_f (by decide) hp)))⟩
    · exact absurd rfl h10
  · rcases g with rfl | rfl | rfl | rfl
    · exact ⟨7, Or.inr (Or.inr (Or.inl ⟨rfl, by decide⟩)), Or.inl (by decide), fun post hp => br_f (by decide) (br_f (by decide) (br_t rfl hp)), fun post hp => yy_fo hw (fun _ => br_f (by decide) (br_f (by decide) (br_f (by decide) (br_f (by decide) (br_t rfl hp))))) (fun _ => br_f (by decide) (br_f (by decide) (br_f (by decide) (br_f (by decide) (br_t rfl hp)))))⟩
    · exact ⟨10, Or.inr (Or.inr (Or.inl ⟨rfl, by decide⟩)), Or.inl (by decide), fun post hp => br_f (by decide) (br_f (by decide) (br_f (by decide) (br_f (by decide) hp))), fun post hp => yy_fo hw (fun _ => br_f (by decide) (br_f (by decide) (br_f (by decide) (br_f (by decide) (br_f (by decide) (br_f (by decide) hp)))))) (fun _ => br_f (by decide) (br_f (by decide) (br_f (by decide) (br_f (by decide) (br_f (by decide) (br_f (by decide) hp))))))⟩
    · exact ⟨5, Or.inr (Or.inr (Or.inl ⟨rfl, by decide⟩)), Or.inr (by decide), fun post hp => br_f (by decide) (br_f (by decide) (br_f (by decide) (br_t rfl hp))), fun post hp => yy_fo hw (fun _ => br_f (by decide) (br_f (by decide) (br_f (by decide) (br_f (by decide) (br_f (by decide) (br_t rfl hp)))))) (fun _ => br_f (by decide) (br_f (by decide) (br_f (by decide) (br_f (by decide) (br_f (by decide) (br_t rfl hp))))))⟩
    · exact absurd rfl h10
  · rcases g with rfl | rfl | rfl
    · exact ⟨10, Or.inr (Or.inr (Or.inr ⟨rfl, by decide⟩)), Or.inl (by decide), fun post hp => br_f (by decide) (br_f (by decide) (br_f (by decide) (br_f (by decide) hp))), fun post hp => yy_fo hw (fun _ => br_f (by decide) (br_f (by decide) (br_f (by decide) (br_f (by decide) (br_f (by decide) (br_f (by decide) hp)))))) (fun _ => br_f (by decide) (br_f (by decide) (br_f (by decide) (br_f (by decide) (br_f (by decide) (br_f (by decide) hp))))))⟩
    · exact ⟨5, Or.inr (Or.inr (Or.inr ⟨rfl, by decide⟩)), Or.inr (by decide), fun post hp => br_f (by decide) (br_f (by decide) (br_f (by decide) (br_t rfl hp))), fun post hp => yy_fo hw (fun _ => br_f (by decide) (br_f (by decide) (br_f (by decide) (br_f (by decide) (br_f (by decide) (br_t rfl hp)))))) (fun _ => br_f (by decide) (br_f (by decide) (br_f (by decide) (br_f (by decide) (br_f (by decide) (br_t rfl hp))))))⟩
    · exact absurd rfl h10
/-- one turn of Y's forward -/
theorem yy_turn {post : SY → Prop} {kd k1 r1 : Int32} {w n t : Nat} (ht : t < 5) (hf : ∀ post : Int32 → Prop, post k1 → wpY_following post (nI P, nI Q, op, nI w, nx, cu, sn, sc, ou, rj, pn, dn, bC, bB, bV, bD, aS, aI, aO, aA, bR) kd)
    (hq : (fw_run k1 ∧ ∀ post : Int32 → Prop, post r1 → wpY_qualifying post (nI P, nI Q, op, nI w, nx, cu, sn, sc, ou, rj, pn, dn, bC, bB, bV, bD, aS, aI, aO, aA, bR) k1 (nI 0)) ∨ (¬ fw_run k1 ∧ r1 = -1))
    (hn : wY_forward_33 post (nI P) (nI Q) op (nI w) nx cu sn sc ou rj pn dn bC bB bV bD aS aI aO aA bR n k1 r1 (fw_r k1) (nI (t + 1))) : wY_forward_33 post (nI P) (nI Q) op (nI w) nx cu sn sc ou rj pn dn bC bB bV bD aS aI aO aA bR (n + 1) kd (-1) 1 (nI t) := by
  refine br_f (nI_ge (b := 5) ht (by decide)) (br_f (by decide) (br_f (by decide) (hf _ ?_)))
  rcases hq with ⟨hr, hq⟩ | ⟨hr, rfl⟩
  · rw [fw_r1 hr] at hn
    have H : wY_forward_70 post (wY_forward_33 post (nI P) (nI Q) op (nI w) nx cu sn sc ou rj pn dn bC bB bV bD aS aI aO aA bR n) k1 (nI t) (nI P) (nI Q) op (nI w) nx cu sn sc ou rj pn dn bC bB bV bD aS aI aO aA bR := br_f (by decide) (hq _ (nm_r (e' := nI (t + 1)) (nI_1 t) hn))
    by_cases h4 : k1 = 4
    · exact br_t h4 H
    · by_cases h7 : k1 = 7
      · exact br_f h4 (br_t h7 H)
      · exact br_f h4 (br_f h7 (br_t ((hr.resolve_left h4).resolve_left h7) H))
  · rw [fw_r0 hr] at hn
    exact br_f (fun z => hr (Or.inl z)) (br_f (fun z => hr (Or.inr (Or.inl z))) (br_f (fun z => hr (Or.inr (Or.inr z))) (br_t rfl (nm_r (e' := nI (t + 1)) (nI_1 t) hn))))
theorem xx_ent_end {post : SX → Prop} {k r : Int32} (h : 0 ≤ r ∨ ¬ fw_run k) (hp : post (nI P, nI Q, op, wh, pn, k, r, ou, dn, rk, sn, sc, aC, aD, aS, aI, aO, aA, aR, aG, aT, aJ, aK)) : ∀ (m i : Nat), i + m = 2 → wX_enter_13 post (nI P) (nI Q) op wh pn nx cu ou dn rk sn sc aC aD aS aI aO aA aR aG aT aJ aK (m + 1) k r (nI i) := by
  intro m
  induction m with
  | zero =>
    intro i hi
    obtain rfl : i = 2 := by omega
    exact br_t (by decide) hp
  | succ m ih =>
    intro i hi
    refine br_f (nI_ge (b := 2) (by omega) (by decide)) ?_
    have H := ih (i + 1) (by omega)
    by_cases h0 : 0 ≤ r
    · exact br_t h0 (nm_r (e' := nI (i + 1)) (nI_1 i) H)
    · have hr := h.resolve_left h0
      exact br_f h0 (xx_run0 (fun z => hr (Or.inl z)) (fun z => hr (Or.inr (Or.inl z))) (fun z => hr (Or.inr (Or.inr z))) (br_t rfl (nm_r (e' := nI (i + 1)) (nI_1 i) H)))
theorem yy_ent_end {post : SY → Prop} {k r f : Int32} {n t : Nat} (h : 0 ≤ r ∨ f = 0) (hp : post (nI P, nI Q, op, wh, k, r, sn, sc, ou, rj, pn, dn, bC, bB, bV, bD, aS, aI, aO, aA, bR)) : wY_forward_33 post (nI P) (nI Q) op wh nx cu sn sc ou rj pn dn bC bB bV bD aS aI aO aA bR (n + 1) k r f (nI t) := by
  have H : wY_forward_97 post k r (nI P) (nI Q) op wh nx cu sn sc ou rj pn dn bC bB bV bD aS aI aO aA bR := hp
  refine br_c (fun _ => H) (fun _ => br_c (fun _ => H) (fun z => br_t (h.resolve_right z) H))
theorem lk_ent {w : Nat} (hw : w < 6) (hQ : Q ≤ 12) (hD : rl_D aD bD) (hE : cl_E aC bC) :
    ∀ (m i t : Nat), i + m = 2 → t + m < 5 → ∀ k r : Int32, fw_al op k → fw_dp k ≤ m → (r = -1 ∨ (fw_run k ∧ ∃ c : Nat, c < Q ∧ r = nI c)) →
    ∃ k' r' : Int32, fw_at Q op k' r' ∧ ((k' = k ∧ r' = r) ∨ fw_dp k' < fw_dp k) ∧ (∀ post : SX → Prop, post (nI P, nI Q, op, nI w, pn, k', r', ou, dn, rk, sn, sc, aC, aD, aS, aI, aO, aA, aR, aG, aT, aJ, aK) → wX_enter_13 post (nI P) (nI Q) op (nI w) pn nx cu ou dn rk sn sc aC aD aS aI aO aA aR aG aT aJ aK (m + 1) k r (nI i)) ∧ (∀ post : SY → Prop, post (nI P, nI Q, op, nI w, k', r', sn, sc, ou, rj, pn, dn, bC, bB, bV, bD, aS, aI, aO, aA, bR) → wY_forward_33 post (nI P) (nI Q) op (nI w) nx cu sn sc ou rj pn dn bC bB bV bD aS aI aO aA bR (m + 1) k r (fw_r k) (nI t)) := by
  intro m
  induction m with
  | zero =>
    intro i t hi ht k r hk hd hr
    have hnr : ¬ fw_run k := fun z => absurd (fw_dp0 z) (by omega)
    have hr1 : r = -1 := hr.elim id (fun z => absurd z.1 hnr)
    exact ⟨k, r, ⟨hk, Or.inr ⟨hnr, hr1⟩⟩, Or.inl ⟨rfl, rfl⟩, fun post hp => xx_ent_end (Or.inr hnr) hp 0 i hi, fun post hp => yy_ent_end (Or.inr (fw_r0 hnr)) hp⟩
  | succ m ih =>
    intro i t hi ht k r hk hd hr
    by_cases hrun : fw_run k
    · rcases hr with rfl | ⟨_, c, hc, rfl⟩
      · have h10 : ¬ k = 10 := by
          intro e
          subst e
          exact absurd hrun (by unfold fw_run; decide)
        obtain ⟨k1, ha1, hdp, hX1, hY1⟩ := lk_fo (P := P) (Q := Q) (pn := pn) (nx := nx) (cu := cu) (ou := ou) (dn := dn) (rk := rk) (rj := rj) (sn := sn) (sc := sc) (aC := aC) (aD := aD) (aS := aS) (aI := aI) (aO := aO) (aA := aA) (aR := aR) (aG := aG) (aT := aT) (aJ := aJ) (aK := aK) (bC := bC) (bB := bB) (bV := bV) (bD := bD) (bR := bR) hw hk h10
        have hdk := fw_dp0 hrun
        have hdp' : fw_dp k1 < fw_dp k := hdp.resolve_left (by omega)
        have H : ∃ r1 : Int32, (r1 = -1 ∨ (fw_run k1 ∧ ∃ c : Nat, c < Q ∧ r1 = nI c)) ∧ (∀ post : Int32 → Prop, post r1 → wpX_firstFrom post (nI P, nI Q, op, nI w, pn, nx, cu, ou, dn, rk, sn, sc, aC, aD, aS, aI, aO, aA, aR, aG, aT, aJ, aK) k1 0) ∧ ((fw_run k1 ∧ ∀ post : Int32 → Prop, post r1 → wpY_qualifying post (nI P, nI Q, op, nI w, nx, cu, sn, sc, ou, rj, pn, dn, bC, bB, bV, bD, aS, aI, aO, aA, bR) k1 (nI 0)) ∨ (¬ fw_run k1 ∧ r1 = -1)) := by
          by_cases hr1 : fw_run k1
          · obtain ⟨r1, g1, g2, g3⟩ := lk_first (P := P) (q := 0) (pn := pn) (nx := nx) (cu := cu) (ou := ou) (dn := dn) (rk := rk) (rj := rj) (sn := sn) (sc := sc) (aS := aS) (aI := aI) (aO := aO) (aA := aA) (aR := aR) (aG := aG) (aT := aT) (aJ := aJ) (aK := aK) (bB := bB) (bV := bV) (bR := bR) hw (Nat.zero_le Q) hQ hD hE (fw_scan ha1 hr1)
            refine ⟨r1, ?_, g2, Or.inl ⟨hr1, g3⟩⟩
            rcases g1 with g1 | ⟨c, _, g1, g4⟩
            · exact Or.inl g1
            · exact Or.inr ⟨hr1, c, g1, g4⟩
          · exact ⟨-1, Or.inl rfl, fun post hp => xx_first0 (fun z => hr1 (Or.inl z)) (fun z => hr1 (Or.inr (Or.inl z))) (fun z => hr1 (Or.inr (Or.inr z))) hp, Or.inr ⟨hr1, rfl⟩⟩
        obtain ⟨r1, hr1, hXf, hYq⟩ := H
        obtain ⟨k', r', hat, hor, hX, hY⟩ := ih (i + 1) (t + 1) (by omega) (by omega) k1 r1 ha1 (by omega) hr1
        refine ⟨k', r', hat, Or.inr ?_, fun post hp => ?_, fun post hp => ?_⟩
        · rcases hor with ⟨e, _⟩ | h
          · rw [e]; exact hdp'
          · omega
        · refine br_f (nI_ge (b := 2) (by omega) (by decide)) (br_f (by decide) (xx_run1 hrun (br_f (by decide) (hX1 _ (hXf _ (nm_r (e' := nI (i + 1)) (nI_1 i) (hX post hp)))))))
        · rw [fw_r1 hrun]
          exact yy_turn (by omega) hY1 hYq (hY post hp)
      · have h0 : (0 : Int32) ≤ nI c := nI_pos' (by omega)
        exact ⟨k, nI c, ⟨hk, Or.inl ⟨hrun, c, hc, rfl⟩⟩, Or.inl ⟨rfl, rfl⟩, fun post hp => xx_ent_end (Or.inl h0) hp (m + 1) i hi, fun post hp => yy_ent_end (Or.inl h0) hp⟩
    · have hr1 : r = -1 := hr.elim id (fun z => absurd z.1 hrun)
      exact ⟨k, r, ⟨hk, Or.inr ⟨hrun, hr1⟩⟩, Or.inl ⟨rfl, rfl⟩, fun post hp => xx_ent_end (Or.inr hrun) hp (m + 1) i hi, fun post hp => yy_ent_end (Or.inr (fw_r0 hrun)) hp⟩
/-- on from a file step at path c -/
theorem lk_fwF {w c : Nat} (hw : w < 6) (hc : c < Q) (hQ : Q ≤ 12) (hD : rl_D aD bD) (hE : cl_E aC bC) (ha : fw_al op nx) (hr : fw_run nx) :
    ∃ k' r' : Int32, fw_at Q op k' r' ∧ ((k' = nx ∧ ∃ d : Nat, c < d ∧ d < Q ∧ r' = nI d) ∨ fw_dp k' < fw_dp nx) ∧ (∀ post : SX → Prop, post (nI P, nI Q, op, nI w, pn, k', r', ou, dn, rk, sn, sc, aC, aD, aS, aI, aO, aA, aR, aG, aT, aJ, aK) → wpX_enter post (nI P, nI Q, op, nI w, pn, nx, nI c, ou, dn, rk, sn, sc, aC, aD, aS, aI, aO, aA, aR, aG, aT, aJ, aK) nx (nI c + 1)) ∧ (∀ post : SY → Prop, post (nI P, nI Q, op, nI w, k', r', sn, sc, ou, rj, pn, dn, bC, bB, bV, bD, aS, aI, aO, aA, bR) → wpY_forward post (nI P, nI Q, op, nI w, nx, nI c, sn, sc, ou, rj, pn, dn, bC, bB, bV, bD, aS, aI, aO, aA, bR)) := by
  obtain ⟨r, g1, g2, g3⟩ := lk_first (P := P) (q := c + 1) (pn := pn) (nx := nx) (cu := nI c) (ou := ou) (dn := dn) (rk := rk) (rj := rj) (sn := sn) (sc := sc) (aS := aS) (aI := aI) (aO := aO) (aA := aA) (aR := aR) (aG := aG) (aT := aT) (aJ := aJ) (aK := aK) (bB := bB) (bV := bV) (bR := bR) hw (by omega) hQ hD hE (fw_scan ha hr)
  have hr' : r = -1 ∨ (fw_run nx ∧ ∃ c : Nat, c < Q ∧ r = nI c) := by
    rcases g1 with g | ⟨d, _, g, g'⟩
    · exact Or.inl g
    · exact Or.inr ⟨hr, d, g, g'⟩
  obtain ⟨k', r', hat, hor, hX, hY⟩ := lk_ent (P := P) (pn := pn) (nx := nx) (cu := nI c) (ou := ou) (dn := dn) (rk := rk) (rj := rj) (sn := sn) (sc := sc) (aS := aS) (aI := aI) (aO := aO) (aA := aA) (aR := aR) (aG := aG) (aT := aT) (aJ := aJ) (aK := aK) (bB := bB) (bV := bV) (bR := bR) hw hQ hD hE 2 0 0 rfl (by omega) nx r ha (fw_dp2 _) hr'
  refine ⟨k', r', hat, ?_, fun post hp => ?_, fun post hp => ?_⟩
  · rcases hor with ⟨e1, e2⟩ | h
    · rcases g1 with g | ⟨d, gd, g, g'⟩
      · rcases hat.2 with ⟨_, d, hd, ed⟩ | ⟨z, _⟩
        · exact absurd (ed.symm.trans (e2.trans g)) (ix_m1 d (by omega))
        · exact absurd (e1 ▸ hr) z
      · exact Or.inl ⟨e1, d, by omega, g, e2.trans g'⟩
    · exact Or.inr h
  · unfold wpX_enter
    dsimp only
    rw [nI_1]
    exact g2 _ ⟨_, hX post hp⟩
  · have h0 : (0 : Int32) ≤ nI c := nI_pos' (by omega)
    refine br_t h0 ?_
    rw [nI_1]
    refine g3 _ ⟨3, ?_⟩
    have H := hY post hp
    rw [fw_r1 hr] at H
    exact H
/-- on from a script, or from the start -/
theorem lk_fwS {w : Nat} {kd k1 : Int32} (hw : w < 6) (hQ : Q ≤ 12) (hD : rl_D aD bD) (hE : cl_E aC bC) (ha : fw_al op k1) (hY1 : ∀ post : Int32 → Prop, post k1 → wpY_following post (nI P, nI Q, op, nI w, kd, -1, sn, sc, ou, rj, pn, dn, bC, bB, bV, bD, aS, aI, aO, aA, bR) kd) :
    ∃ k' r' : Int32, fw_at Q op k' r' ∧ (∀ post : SX → Prop, post (nI P, nI Q, op, nI w, pn, k', r', ou, dn, rk, sn, sc, aC, aD, aS, aI, aO, aA, aR, aG, aT, aJ, aK) → wpX_enter post (nI P, nI Q, op, nI w, pn, kd, -1, ou, dn, rk, sn, sc, aC, aD, aS, aI, aO, aA, aR, aG, aT, aJ, aK) k1 0) ∧ (∀ post : SY → Prop, post (nI P, nI Q, op, nI w, k', r', sn, sc, ou, rj, pn, dn, bC, bB, bV, bD, aS, aI, aO, aA, bR) → wpY_forward post (nI P, nI Q, op, nI w, kd, -1, sn, sc, ou, rj, pn, dn, bC, bB, bV, bD, aS, aI, aO, aA, bR)) := by
  have H : ∃ r1 : Int32, (r1 = -1 ∨ (fw_run k1 ∧ ∃ c : Nat, c < Q ∧ r1 = nI c)) ∧ (∀ post : Int32 → Prop, post r1 → wpX_firstFrom post (nI P, nI Q, op, nI w, pn, kd, -1, ou, dn, rk, sn, sc, aC, aD, aS, aI, aO, aA, aR, aG, aT, aJ, aK) k1 0) ∧ ((fw_run k1 ∧ ∀ post : Int32 → Prop, post r1 → wpY_qualifying post (nI P, nI Q, op, nI w, kd, -1, sn, sc, ou, rj, pn, dn, bC, bB, bV, bD, aS, aI, aO, aA, bR) k1 (nI 0)) ∨ (¬ fw_run k1 ∧ r1 = -1)) := by
    by_cases hr1 : fw_run k1
    · obtain ⟨r1, g1, g2, g3⟩ := lk_first (P := P) (q := 0) (pn := pn) (nx := kd) (cu := -1) (ou := ou) (dn := dn) (rk := rk) (rj := rj) (sn := sn) (sc := sc) (aS := aS) (aI := aI) (aO := aO) (aA := aA) (aR := aR) (aG := aG) (aT := aT) (aJ := aJ) (aK := aK) (bB := bB) (bV := bV) (bR := bR) hw (Nat.zero_le Q) hQ hD hE (fw_scan ha hr1)
      refine ⟨r1, ?_, g2, Or.inl ⟨hr1, g3⟩⟩
      rcases g1 with g1 | ⟨c, _, g1, g4⟩
      · exact Or.inl g1
      · exact Or.inr ⟨hr1, c, g1, g4⟩
    · exact ⟨-1, Or.inl rfl, fun post hp => xx_first0 (fun z => hr1 (Or.inl z)) (fun z => hr1 (Or.inr (Or.inl z))) (fun z => hr1 (Or.inr (Or.inr z))) hp, Or.inr ⟨hr1, rfl⟩⟩
  obtain ⟨r1, hr1, hXf, hYq⟩ := H
  obtain ⟨k', r', hat, _, hX, hY⟩ := lk_ent (P := P) (pn := pn) (nx := kd) (cu := -1) (ou := ou) (dn := dn) (rk := rk) (rj := rj) (sn := sn) (sc := sc) (aS := aS) (aI := aI) (aO := aO) (aA := aA) (aR := aR) (aG := aG) (aT := aT) (aJ := aJ) (aK := aK) (bB := bB) (bV := bV) (bR := bR) hw hQ hD hE 2 0 1 rfl (by omega) k1 r1 ha (fw_dp2 _) hr1
  refine ⟨k', r', hat, fun post hp => ?_, fun post hp => ?_⟩
  · unfold wpX_enter
    exact hXf _ ⟨_, hX post hp⟩
  · exact br_f (by decide) ⟨4, yy_turn (t := 0) (by omega) hY1 hYq (hY post hp)⟩
end
end
section
/-! ===== the greatest listed path below a limit: restoreBelow against back ===== -/
def rb_f (a : Nat → Int32) (b : Nat) : Nat → Int32
  | 0 => -1
  | l + 1 => if a (b + l) = 0 then rb_f a b l else nI l
def rb_n (r : Int32) : Int32 := if 0 ≤ r then 12 else 13
theorem rb_or (a : Nat → Int32) (b : Nat) : ∀ l : Nat, rb_f a b l = -1 ∨ ∃ c : Nat, c < l ∧ rb_f a b l = nI c := by
  intro l
  induction l with
  | zero => exact Or.inl rfl
  | succ l ih =>
    show (if a (b + l) = 0 then rb_f a b l else nI l) = -1 ∨ ∃ c : Nat, c < l + 1 ∧ (if a (b + l) = 0 then rb_f a b l else nI l) = nI c
    by_cases h : a (b + l) = 0
    · rw [if_pos h]
      rcases ih with g | ⟨c, hc, e⟩
      · exact Or.inl g
      · exact Or.inr ⟨c, by omega, e⟩
    · rw [if_neg h]
      exact Or.inr ⟨l, by omega, rfl⟩
theorem rb_pos {Q l : Nat} {a : Nat → Int32} {b : Nat} (hl : l ≤ Q) (hQ : Q ≤ 12) : rl_Pos Q 1 (rb_n (rb_f a b l)) (rb_f a b l) := by
  rcases rb_or a b l with h | ⟨c, hc, h⟩
  · rw [h]
    exact ⟨Or.inl ⟨rfl, by decide⟩, Or.inr ⟨by unfold rl_fi; decide, rfl⟩⟩
  · rw [h, show rb_n (nI c) = 12 from if_pos (nI_pos' (by omega))]
    exact ⟨Or.inl ⟨rfl, by decide⟩, Or.inl ⟨by unfold rl_fi; decide, c, by omega, rfl⟩⟩
theorem rb_B {Q l r : Nat} {a : Nat → Int32} {b : Nat} (hl : l ≤ Q) (hQ : Q ≤ 12) (hr : r + l ≤ 12) : rl_B (rb_n (rb_f a b l)) (rb_f a b l) r := by
  refine ⟨by omega, fun c hc e => ?_⟩
  rcases rb_or a b l with h | ⟨d, hd, h⟩
  · exact absurd (e.symm.trans h) (ix_m1 c (by omega))
  · have hdc : d = c := (nI_eq (by omega) (by omega)).mp (h.symm.trans e)
    have e12 : rb_n (rb_f a b l) = 12 := by rw [h]; exact if_pos (nI_pos' (by omega))
    rw [e12]
    exact ⟨fun z => absurd z (by decide), fun z => absurd z (by decide), fun _ => by omega⟩
section
variable {P Q : Nat} {op wh pn nx cu ou dn rk sn sc rj : Int32} {aC aD aS aI aO aA aR aG aT aJ aK bC bB bV bD bR : Nat → Int32}
theorem xx_rb4 {post : SX → Prop} {w : Nat} (hw : w < 6) : ∀ l : Nat, l ≤ 12 → post (nI P, nI Q, op, nI w, pn, rb_n (rb_f aA (12 * w) l), rb_f aA (12 * w) l, ou, dn, rk, sn, sc, aC, aD, aS, aI, aO, aA, aR, aG, aT, aJ, aK) → wX_restoreBelow_4 post (nI P) (nI Q) op (nI w) pn nx cu ou dn rk sn sc aC aD aS aI aO aA aR aG aT aJ aK (l + 1) (nI l - 1) := by
  intro l
  induction l with
  | zero =>
    intro _ hp
    exact br_t (by decide) hp
  | succ l ih =>
    intro hl hp
    rw [nI_pred]
    refine br_f (nI_pos (by omega)) ?_
    rw [ix_12x, nI_clamp (n := 12 * w + l) (by omega)]
    refine ⟨vp_in_nI (by omega) (by decide), ?_⟩
    by_cases h : aA (12 * w + l) = 0
    · have e : rb_f aA (12 * w) (l + 1) = rb_f aA (12 * w) l := if_pos h
      rw [e] at hp
      exact br_t h (nm_r (e' := nI l - 1) (Int32.sub_eq_add_neg _ _).symm (ih (by omega) hp))
    · have e : rb_f aA (12 * w) (l + 1) = nI l := if_neg h
      rw [e, show rb_n (nI l) = 12 from if_pos (nI_pos' (by omega))] at hp
      exact br_f h hp
theorem xx_rb {post : SX → Prop} {w l : Nat} (hw : w < 6) (hl : l ≤ 12) (hp : post (nI P, nI Q, op, nI w, pn, rb_n (rb_f aA (12 * w) l), rb_f aA (12 * w) l, ou, dn, rk, sn, sc, aC, aD, aS, aI, aO, aA, aR, aG, aT, aJ, aK)) : wpX_restoreBelow post (nI P, nI Q, op, nI w, pn, nx, cu, ou, dn, rk, sn, sc, aC, aD, aS, aI, aO, aA, aR, aG, aT, aJ, aK) (nI l) :=
  nm_e (Exists.intro (l + 1) (xx_rb4 hw l hl hp))
theorem yy_rb4 {post : SY → Prop} {w l : Nat} (hw : w < 6) (hl : l ≤ 12) (hp : post (nI P, nI Q, op, nI w, rb_n (rb_f aA (12 * w) l), rb_f aA (12 * w) l, sn, sc, ou, rk, pn, dn, bC, bB, bV, bD, aS, aI, aO, aA, bR)) : ∀ d i : Nat, i + d = l → wY_back_4 post (nI l) (nI P) (nI Q) op (nI w) nx cu sn sc ou rk pn dn bC bB bV bD aS aI aO aA bR (d + 1) (rb_f aA (12 * w) i) (nI i) := by
  intro d
  induction d with
  | zero =>
    intro i hi
    obtain rfl : i = l := by omega
    refine br_t (nI_le (by omega) (by omega)) ?_
    unfold rb_n at hp
    by_cases h : 0 ≤ rb_f aA (12 * w) i
    · rw [if_pos h] at hp
      exact br_t h hp
    · rw [if_neg h] at hp
      exact br_f h hp
  | succ d ih =>
    intro i hi
    refine br_f (nI_ge (by omega) (by omega)) ?_
    rw [ix_12y, nI_clamp (n := 12 * w + i) (by omega)]
    refine ⟨vp_in_nI (by omega) (by decide), ?_⟩
    have H := ih (i + 1) (by omega)
    by_cases h : aA (12 * w + i) = 0
    · have e : rb_f aA (12 * w) (i + 1) = rb_f aA (12 * w) i := if_pos h
      rw [e] at H
      exact br_t h (nm_r (e' := nI (i + 1)) (nI_1 i) H)
    · have e : rb_f aA (12 * w) (i + 1) = nI i := if_neg h
      rw [e] at H
      exact br_f h (nm_r (e' := nI (i + 1)) (nI_1 i) H)
theorem yy_rb {post : SY → Prop} {w l : Nat} (hw : w < 6) (hl : l ≤ 12) (hp : post (nI P, nI Q, op, nI w, rb_n (rb_f aA (12 * w) l), rb_f aA (12 * w) l, sn, sc, ou, rk, pn, dn, bC, bB, bV, bD, aS, aI, aO, aA, bR)) : wpY_back post (nI P, nI Q, op, nI w, nx, cu, sn, sc, ou, rk, pn, dn, bC, bB, bV, bD, aS, aI, aO, aA, bR) (nI l) :=
  Exists.intro (l + 1) (yy_rb4 hw hl hp l 0 (by omega))
end
/-! ===== does a package own any cell: ownsAny against commit's loop ===== -/
section
variable {P Q : Nat} {op wh pn nx cu ou dn rk sn sc rj : Int32} {aC aD aS aI aO aA aR aG aT aJ aK bC bB bV bD bR : Nat → Int32}
def cm_f (a : Nat → Int32) (wh : Int32) : Nat → Nat → Int32
  | 0, _ => 0
  | d + 1, i => if cl_ow (a i) = wh then 1 else cm_f a wh d (i + 1)
theorem xx_own {post : Int32 → Prop} {w : Int32} (hQ : Q ≤ 12) : ∀ d i : Nat, i + d = 2 * Q → post (cm_f aC w d i) → wX_ownsAny_2 post w (nI P) (nI Q) op wh pn nx cu ou dn rk sn sc aC aD aS aI aO aA aR aG aT aJ aK (d + 1) (nI i) := by
  intro d
  induction d with
  | zero =>
    intro i hi hp
    refine br_t ?_ hp
    rw [ix_2]
    exact nI_le (by omega) (by omega)
  | succ d ih =>
    intro i hi hp
    have h : ¬ 2 * nI Q ≤ nI i := by
      rw [ix_2]
      exact nI_ge (by omega) (by omega)
    refine br_f h ⟨vp_in_nI (by omega) (by decide), xx_ow ?_⟩
    rw [nI_clamp (n := i) (by omega)]
    by_cases e : cl_ow (aC i) = w
    · have e2 : cm_f aC w (d + 1) i = 1 := if_pos e
      rw [e2] at hp
      exact br_t e hp
    · have e2 : cm_f aC w (d + 1) i = cm_f aC w d (i + 1) := if_neg e
      rw [e2] at hp
      exact br_f e (nm_r (e' := nI (i + 1)) (nI_1 i) (ih (i + 1) (by omega) hp))
theorem yy_cm1 {post : SY → Prop} (hQ : Q ≤ 12) : ∀ d i : Nat, i + d = 2 * Q → wY_commit_4 post (nI P) (nI Q) op wh nx cu sn sc ou rk pn dn bC bB bV bD aS aI aO aA bR 1 1 (nI (2 * Q)) → wY_commit_4 post (nI P) (nI Q) op wh nx cu sn sc ou rk pn dn bC bB bV bD aS aI aO aA bR (d + 1) 1 (nI i) := by
  intro d
  induction d with
  | zero =>
    intro i hi hp
    obtain rfl : i = 2 * Q := by omega
    exact hp
  | succ d ih =>
    intro i hi hp
    have h : ¬ 2 * nI Q ≤ nI i := by
      rw [ix_2]
      exact nI_ge (by omega) (by omega)
    exact br_f h (br_f (by decide) (nm_r (e' := nI (i + 1)) (nI_1 i) (ih (i + 1) (by omega) hp)))
theorem yy_cm {post : SY → Prop} (hQ : Q ≤ 12) (hE : cl_E aC bC) : ∀ d i : Nat, i + d = 2 * Q → wY_commit_4 post (nI P) (nI Q) op wh nx cu sn sc ou rk pn dn bC bB bV bD aS aI aO aA bR 1 (cm_f aC wh d i) (nI (2 * Q)) → wY_commit_4 post (nI P) (nI Q) op wh nx cu sn sc ou rk pn dn bC bB bV bD aS aI aO aA bR (d + 1) 0 (nI i) := by
  intro d
  induction d with
  | zero =>
    intro i hi hp
    obtain rfl : i = 2 * Q := by omega
    exact hp
  | succ d ih =>
    intro i hi hp
    have h : ¬ 2 * nI Q ≤ nI i := by
      rw [ix_2]
      exact nI_ge (by omega) (by omega)
    refine br_f h (br_t rfl ?_)
    rw [ix_5, nI_1, nI_clamp (n := 5 * i + 1) (by omega), (hE i (by omega)).2.1]
    refine ⟨vp_in_nI (by omega) (by decide), ?_⟩
    by_cases e : cl_ow (aC i) = wh
    · have e2 : cm_f aC wh (d + 1) i = 1 := if_pos e
      rw [e2] at hp
      exact br_t e (nm_r (e' := nI (i + 1)) (nI_1 i) (yy_cm1 hQ d (i + 1) (by omega) hp))
    · have e2 : cm_f aC wh (d + 1) i = cm_f aC wh d (i + 1) := if_neg e
      rw [e2] at hp
      exact br_f e (nm_r (e' := nI (i + 1)) (nI_1 i) (ih (i + 1) (by omega) hp))
theorem cm_01 (a : Nat → Int32) (w : Int32) : ∀ d i : Nat, cm_f a w d i = 0 ∨ cm_f a w d i = 1 := by
  intro d
  induction d with
  | zero => exact fun _ => Or.inl rfl
  | succ d ih =>
    intro i
    by_cases e : cl_ow (a i) = w
    · exact Or.inr (if_pos e)
    · have e2 : cm_f a w (d + 1) i = cm_f a w d (i + 1) := if_neg e
      rw [e2]
      exact ih (i + 1)
end
/-! ===== conflicts: hasConflict against begin's loop ===== -/
theorem rr_c {x y x2 y2 z z2 : Int32} (h : rl_RR x y z) (g : rl_RR x2 y2 z2) : ((x ||| x2) &&& 1) = 0 ↔ (y = 0 ∧ y2 = 0) := by
  rcases h with ⟨rfl, rfl, rfl⟩ | ⟨rfl, rfl, rfl⟩ | ⟨rfl, rfl, rfl⟩ | ⟨rfl, rfl, rfl⟩ <;> rcases g with ⟨rfl, rfl, rfl⟩ | ⟨rfl, rfl, rfl⟩ | ⟨rfl, rfl, rfl⟩ | ⟨rfl, rfl, rfl⟩ <;> decide
section
variable {P Q : Nat} {op wh pn nx cu ou dn rk sn sc rj : Int32} {aC aD aS aI aO aA aR aG aT aJ aK bC bB bV bD bR : Nat → Int32}
/-- X's part of one turn, from row 34 on -/
theorem xx_hc34 {post : Int32 → Prop} {J : Int32 → Prop} {j i : Nat} {z : Int32} (hj : j < 6) (hi : i < 6) (hR : rl_R aR bR)
    (h0 : (i = j ∨ z = 0 ∨ (bR (6 * j + i) = 0 ∧ bR (6 * i + j) = 0)) → J (nI (i + 1))) (h1 : ¬ (i = j ∨ z = 0 ∨ (bR (6 * j + i) = 0 ∧ bR (6 * i + j) = 0)) → post 1) :
    wX_hasConflict_34 post J (nI j) (nI i) z (nI P) (nI Q) op wh pn nx cu ou dn rk sn sc aC aD aS aI aO aA aR aG aT aJ aK := by
  unfold wX_hasConflict_34
  rw [ix_6x, ix_6x, nI_clamp (n := 6 * j + i) (by omega), nI_clamp (n := 6 * i + j) (by omega)]
  refine ⟨vp_in_nI (by omega) (by decide), vp_in_nI (by omega) (by decide), nm_e ?_⟩
  have hrr := rr_c (hR (6 * j + i) (by omega)) (hR (6 * i + j) (by omega))
  by_cases e : i = j
  · exact br_t (by rw [e]) (nm_r (e' := nI (i + 1)) (nI_1 i) (h0 (Or.inl e)))
  · refine br_f (fun y => e ((nI_eq (by omega) (by omega)).mp y)) ?_
    by_cases hz : z = 0
    · exact br_t hz (nm_r (e' := nI (i + 1)) (nI_1 i) (h0 (Or.inr (Or.inl hz))))
    · refine br_f hz ?_
      by_cases hb : bR (6 * j + i) = 0 ∧ bR (6 * i + j) = 0
      · exact br_t (hrr.mpr hb) (nm_r (e' := nI (i + 1)) (nI_1 i) (h0 (Or.inr (Or.inr hb))))
      · exact br_f (fun y => hb (hrr.mp y)) (h1 (fun y => y.elim e (fun y => y.elim hz hb)))
theorem st_01 {x : Int32} {s : Nat} (hs : s ≤ 5) (e : x = nI s) : x ≤ 1 ↔ (x = 0 ∨ x = 1) := by
  subst e
  exact (by decide +kernel : ∀ s, s < 6 → (nI s ≤ 1 ↔ (nI s = 0 ∨ nI s = 1))) s (by omega)
theorem lk_conf {j : Nat} {tn : Int32} (hj : j < P) (hP : P ≤ 6) (hT : rl_T aS) (hR : rl_R aR bR) :
    ∀ d i : Nat, i + d = P → ∃ r : Int32, (r = 0 ∨ r = 1) ∧ (∀ post : Int32 → Prop, post r → wX_hasConflict_2 post (nI j) (nI P) (nI Q) op wh pn nx cu ou dn rk sn sc aC aD aS aI aO aA aR aG aT aJ aK (d + 1) (nI i)) ∧ (∀ post : Int32 → SY → Prop, (r = 0 → wY_begin_122 post 1 (nI j) tn (nI P) (nI Q) op wh nx cu sn sc ou rk pn dn bC bB bV bD aS aI aO aA bR 1 (nI P)) → (r = 1 → post (-5) (nI P, nI Q, op, wh, nx, cu, sn, sc, ou, rk, pn, dn, bC, bB, bV, bD, aS, aI, aO, aA, bR)) → wY_begin_122 post 1 (nI j) tn (nI P) (nI Q) op wh nx cu sn sc ou rk pn dn bC bB bV bD aS aI aO aA bR (d + 1) (nI i)) := by
  intro d
  induction d with
  | zero =>
    intro i hi
    obtain rfl : i = P := by omega
    exact ⟨0, Or.inl rfl, fun post hp => br_t (nI_le (by omega) (by omega)) hp, fun post hp _ => hp rfl⟩
  | succ d ih =>
    intro i hi
    have hlt : i < P := by omega
    obtain ⟨s, hs, es⟩ := hT i (by omega)
    have hst := st_01 hs es
    have hn : ¬ nI P ≤ nI i := nI_ge hlt (by omega)
    have hv : vp_in (nI i) 6 := vp_in_nI (by omega) (by decide)
    have ec : (nI i).toNatClampNeg = i := nI_clamp (by omega)
    -- X's head, down to row 34
    have HX : ∀ (post : Int32 → Prop) (J : Int32 → Prop), (∀ z : Int32, (z = 0 ↔ (aS i = 0 ∨ aS i = 1)) → wX_hasConflict_34 post J (nI j) (nI i) z (nI P) (nI Q) op wh pn nx cu ou dn rk sn sc aC aD aS aI aO aA aR aG aT aJ aK) → (vp_in (nI i) 6 ∧ ((aS (nI i).toNatClampNeg = 0 → wX_hasConflict_33 post J (nI j) (nI i) (nI P) (nI Q) op wh pn nx cu ou dn rk sn sc aC aD aS aI aO aA aR aG aT aJ aK) ∧ (¬ aS (nI i).toNatClampNeg = 0 → (vp_in (nI i) 6 ∧ ((aS (nI i).toNatClampNeg = 1 → wX_hasConflict_33 post J (nI j) (nI i) (nI P) (nI Q) op wh pn nx cu ou dn rk sn sc aC aD aS aI aO aA aR aG aT aJ aK) ∧ (¬ aS (nI i).toNatClampNeg = 1 → wX_hasConflict_34 post J (nI j) (nI i) 1 (nI P) (nI Q) op wh pn nx cu ou dn rk sn sc aC aD aS aI aO aA aR aG aT aJ aK)))))) := by
      intro post J H
      rw [ec]
      exact ⟨hv, br_c (fun z => H 0 ⟨fun _ => Or.inl z, fun _ => rfl⟩) (fun z => ⟨hv, br_c (fun y => H 0 ⟨fun _ => Or.inr y, fun _ => rfl⟩) (fun y => H 1 ⟨fun t => absurd t (by decide), fun t => absurd t (fun s => s.elim z y)⟩)⟩)⟩
    by_cases hc : i = j ∨ (aS i = 0 ∨ aS i = 1) ∨ (bR (6 * j + i) = 0 ∧ bR (6 * i + j) = 0)
    · obtain ⟨r, hr, hX, hY⟩ := ih (i + 1) (by omega)
      refine ⟨r, hr, fun post hp => br_f hn (HX post _ (fun z hz => xx_hc34 (by omega) (by omega) hR (fun _ => hX post hp) (fun t => absurd ?_ t))), fun post h0 h1 => br_f hn (br_t rfl ?_)⟩
      · rcases hc with h | h | h
        · exact Or.inl h
        · exact Or.inr (Or.inl (hz.mpr h))
        · exact Or.inr (Or.inr h)
      · have K := hY post h0 h1
        by_cases e : i = j
        · exact br_t (by rw [e]) (nm_r (e' := nI (i + 1)) (nI_1 i) K)
        · refine br_f (fun y => e ((nI_eq (by omega) (by omega)).mp y)) ⟨hv, ?_⟩
          rw [ec]
          by_cases hs1 : aS i ≤ 1
          · exact br_t hs1 (nm_r (e' := nI (i + 1)) (nI_1 i) K)
          · have hb : bR (6 * j + i) = 0 ∧ bR (6 * i + j) = 0 := (hc.resolve_left e).resolve_left (fun y => hs1 (hst.mpr y))
            refine br_f hs1 ?_
            rw [ix_6y, ix_6y, nI_clamp (n := 6 * j + i) (by omega), nI_clamp (n := 6 * i + j) (by omega)]
            exact ⟨vp_in_nI (by omega) (by decide), br_t hb.1 ⟨vp_in_nI (by omega) (by decide), br_t hb.2 (nm_r (e' := nI (i + 1)) (nI_1 i) K)⟩⟩
    · have e : ¬ i = j := fun y => hc (Or.inl y)
      have hs1 : ¬ aS i ≤ 1 := fun y => hc (Or.inr (Or.inl (hst.mp y)))
      refine ⟨1, Or.inr rfl, fun post hp => br_f hn (HX post _ (fun z hz => xx_hc34 (by omega) (by omega) hR (fun t => absurd ?_ hc) (fun _ => hp))), fun post _ h1 => br_f hn (br_t rfl (br_f (fun y => e ((nI_eq (by omega) (by omega)).mp y)) ⟨hv, ?_⟩))⟩
      · rcases t with h | h | h
        · exact Or.inl h
        · exact Or.inr (Or.inl (hz.mp h))
        · exact Or.inr (Or.inr h)
      · rw [ec]
        refine br_f hs1 ?_
        rw [ix_6y, ix_6y, nI_clamp (n := 6 * j + i) (by omega), nI_clamp (n := 6 * i + j) (by omega)]
        refine ⟨vp_in_nI (by omega) (by decide), ?_⟩
        by_cases hb : bR (6 * j + i) = 0
        · exact br_t hb ⟨vp_in_nI (by omega) (by decide), br_f (fun y => hc (Or.inr (Or.inr ⟨hb, y⟩))) (h1 rfl)⟩
        · exact br_f hb (h1 rfl)
theorem yy_nconf {post : Int32 → SY → Prop} {o j tn : Int32} (hP : P ≤ 6) (ho : ¬ o = 1) : ∀ d i : Nat, i + d = P → wY_begin_122 post o j tn (nI P) (nI Q) op wh nx cu sn sc ou rk pn dn bC bB bV bD aS aI aO aA bR 1 (nI P) → wY_begin_122 post o j tn (nI P) (nI Q) op wh nx cu sn sc ou rk pn dn bC bB bV bD aS aI aO aA bR (d + 1) (nI i) := by
  intro d
  induction d with
  | zero =>
    intro i hi hp
    obtain rfl : i = P := by omega
    exact hp
  | succ d ih =>
    intro i hi hp
    exact br_f (nI_ge (by omega) (by omega)) (br_f ho (nm_r (e' := nI (i + 1)) (nI_1 i) (ih (i + 1) (by omega) hp)))
end
end
section
/-! ===== file steps: changed against write ===== -/
theorem ix_c {p : Nat} (hp : p < 24) (i : Nat) (hi : i < 5) : (nI (5 * p) + nI i).toNatClampNeg = 5 * p + i := by
  rw [nI_add]
  exact nI_clamp (by omega)
theorem ix_v {p : Nat} (hp : p < 24) (i : Nat) (hi : i < 5) : vp_in (nI (5 * p) + nI i) 120 := by
  rw [nI_add]
  exact vp_in_nI (by omega) (by decide)
theorem ix_c0 {p : Nat} (hp : p < 24) : (nI (5 * p)).toNatClampNeg = 5 * p := nI_clamp (by omega)
theorem ix_v0 {p : Nat} (hp : p < 24) : vp_in (nI (5 * p)) 120 := vp_in_nI (by omega) (by decide)
/-- five stores at 5 p -/
def u5_f (b : Nat → Int32) (p : Nat) (x0 x1 x2 x3 x4 : Int32) : Nat → Int32 := upd (upd (upd (upd (upd b (5 * p) x0) (5 * p + 1) x1) (5 * p + 2) x2) (5 * p + 3) x3) (5 * p + 4) x4
theorem u5_k {b : Nat → Int32} {p j : Nat} {x0 x1 x2 x3 x4 : Int32} (h : j < 5 * p ∨ 5 * p + 5 ≤ j) : u5_f b p x0 x1 x2 x3 x4 j = b j := by
  unfold u5_f
  rw [pk_un (by omega), pk_un (by omega), pk_un (by omega), pk_un (by omega), pk_un (by omega)]
theorem u5_0 {b : Nat → Int32} {p : Nat} {x0 x1 x2 x3 x4 : Int32} : u5_f b p x0 x1 x2 x3 x4 (5 * p) = x0 := by
  unfold u5_f
  rw [pk_un (by omega), pk_un (by omega), pk_un (by omega), pk_un (by omega), pk_us]
theorem u5_1 {b : Nat → Int32} {p : Nat} {x0 x1 x2 x3 x4 : Int32} : u5_f b p x0 x1 x2 x3 x4 (5 * p + 1) = x1 := by
  unfold u5_f
  rw [pk_un (by omega), pk_un (by omega), pk_un (by omega), pk_us]
theorem u5_2 {b : Nat → Int32} {p : Nat} {x0 x1 x2 x3 x4 : Int32} : u5_f b p x0 x1 x2 x3 x4 (5 * p + 2) = x2 := by
  unfold u5_f
  rw [pk_un (by omega), pk_un (by omega), pk_us]
theorem u5_3 {b : Nat → Int32} {p : Nat} {x0 x1 x2 x3 x4 : Int32} : u5_f b p x0 x1 x2 x3 x4 (5 * p + 3) = x3 := by
  unfold u5_f
  rw [pk_un (by omega), pk_us]
theorem u5_4 {b : Nat → Int32} {p : Nat} {x0 x1 x2 x3 x4 : Int32} : u5_f b p x0 x1 x2 x3 x4 (5 * p + 4) = x4 := by
  unfold u5_f
  rw [pk_us]
theorem u5_E {a b : Nat → Int32} {p : Nat} {v x0 x1 x2 x3 x4 : Int32} (h : cl_E a b) (h0 : x0 = cl_cn v) (h1 : x1 = cl_ow v) (h2 : x2 = cl_sh v) (h3 : x3 = cl_cf v) (h4 : x4 = cl_pe v) (h5 : ¬ cl_ow v = 6) : cl_E (upd a p v) (u5_f b p x0 x1 x2 x3 x4) :=
  cl_Eupd h (fun _ hj => u5_k hj) (u5_0.trans h0) (u5_1.trans h1) (u5_2.trans h2) (u5_3.trans h3) (u5_4.trans h4) h5
section
variable {P Q : Nat} {op wh pn nx cu ou dn rk sn sc rj : Int32} {aC aD aS aI aO aA aR aG aT aJ aK bC bB bV bD bR : Nat → Int32}
theorem yy_clear {post : SY → Prop} {p : Nat} (hp : p < 24) (h : post (nI P, nI Q, op, wh, nx, cu, sn, sc, ou, rk, pn, dn, u5_f bC p 0 (-1) 0 0 0, bB, bV, bD, aS, aI, aO, aA, bR)) : wpY_clear post (nI P, nI Q, op, wh, nx, cu, sn, sc, ou, rk, pn, dn, bC, bB, bV, bD, aS, aI, aO, aA, bR) (nI (5 * p)) := by
  refine Exists.intro 6 ?_
  refine br_f (by decide) (br_f (by decide) ⟨ix_v hp 0 (by decide), nm_r (congrArg (fun k => upd bC k 0) (ix_c hp 0 (by decide))) (nm_r (e' := 1) (by decide) ?_)⟩)
  refine br_f (by decide) (br_t (by decide) ⟨ix_v hp 1 (by decide), nm_r (congrArg (fun k => upd _ k (-1)) (ix_c hp 1 (by decide))) (nm_r (e' := 2) (by decide) ?_)⟩)
  refine br_f (by decide) (br_f (by decide) ⟨ix_v hp 2 (by decide), nm_r (congrArg (fun k => upd _ k 0) (ix_c hp 2 (by decide))) (nm_r (e' := 3) (by decide) ?_)⟩)
  refine br_f (by decide) (br_f (by decide) ⟨ix_v hp 3 (by decide), nm_r (congrArg (fun k => upd _ k 0) (ix_c hp 3 (by decide))) (nm_r (e' := 4) (by decide) ?_)⟩)
  refine br_f (by decide) (br_f (by decide) ⟨ix_v hp 4 (by decide), nm_r (congrArg (fun k => upd _ k 0) (ix_c hp 4 (by decide))) (nm_r (e' := 5) (by decide) ?_)⟩)
  exact br_t (by decide) h
theorem yy_w306 {post : SY → Prop} {p : Nat} (hp : p < 24) (h : post (nI P, nI Q, op, wh, nx, cu, sn, sc, ou, rk, pn, dn, u5_f bC p (bB (5 * p)) (bB (5 * p + 1)) (bB (5 * p + 2)) (bB (5 * p + 3)) (bB (5 * p + 4)), bB, bV, bD, aS, aI, aO, aA, bR)) : wY_write_306 post (nI (5 * p)) (nI P) (nI Q) op wh nx cu sn sc ou rk pn dn 6 0 bC bB bV bD aS aI aO aA bR := by
  refine br_f (by decide) ⟨ix_v hp 0 (by decide), ix_v hp 0 (by decide), nm_r (congrArg (fun k => upd bC k (bB k)) (ix_c hp 0 (by decide))) (nm_r (e' := 1) (by decide) ?_)⟩
  refine br_f (by decide) ⟨ix_v hp 1 (by decide), ix_v hp 1 (by decide), nm_r (congrArg (fun k => upd _ k (bB k)) (ix_c hp 1 (by decide))) (nm_r (e' := 2) (by decide) ?_)⟩
  refine br_f (by decide) ⟨ix_v hp 2 (by decide), ix_v hp 2 (by decide), nm_r (congrArg (fun k => upd _ k (bB k)) (ix_c hp 2 (by decide))) (nm_r (e' := 3) (by decide) ?_)⟩
  refine br_f (by decide) ⟨ix_v hp 3 (by decide), ix_v hp 3 (by decide), nm_r (congrArg (fun k => upd _ k (bB k)) (ix_c hp 3 (by decide))) (nm_r (e' := 4) (by decide) ?_)⟩
  refine br_f (by decide) ⟨ix_v hp 4 (by decide), ix_v hp 4 (by decide), nm_r (congrArg (fun k => upd _ k (bB k)) (ix_c hp 4 (by decide))) (nm_r (e' := 5) (by decide) ?_)⟩
  exact br_t (by decide) h
/-- the cell moves from p to q, p is cleared -/
theorem yy_move {post : SY → Prop} {p q : Nat} (hp : p < 24) (hq : q < 24) (hpq : p ≠ q) (h : post (nI P, nI Q, op, wh, nx, cu, sn, sc, ou, rk, pn, dn, u5_f (u5_f bC q (bC (5 * p)) (bC (5 * p + 1)) (bC (5 * p + 2)) (bC (5 * p + 3)) (bC (5 * p + 4))) p 0 (-1) 0 0 0, bB, bV, bD, aS, aI, aO, aA, bR)) : wpY_move post (nI P, nI Q, op, wh, nx, cu, sn, sc, ou, rk, pn, dn, bC, bB, bV, bD, aS, aI, aO, aA, bR) (nI (5 * p)) (nI (5 * q)) := by
  refine Exists.intro 6 ?_
  have r0 : ∀ b : Nat → Int32, upd b (nI (5 * q) + nI 0).toNatClampNeg (b (nI (5 * p) + nI 0).toNatClampNeg) = upd b (5 * q) (b (5 * p)) := fun b => by rw [ix_c hp 0 (by decide), ix_c hq 0 (by decide)]; rfl
  have r : ∀ (i : Nat), i < 5 → ∀ b : Nat → Int32, upd b (nI (5 * q) + nI i).toNatClampNeg (b (nI (5 * p) + nI i).toNatClampNeg) = upd b (5 * q + i) (b (5 * p + i)) := fun i hi b => by rw [ix_c hp i hi, ix_c hq i hi]
  refine br_f (by decide) ⟨ix_v hp 0 (by decide), ix_v hq 0 (by decide), nm_r (r0 bC) (nm_r (e' := 1) (by decide) ?_)⟩
  refine br_f (by decide) ⟨ix_v hp 1 (by decide), ix_v hq 1 (by decide), nm_r (r 1 (by decide) _) (nm_r (e' := 2) (by decide) ?_)⟩
  refine br_f (by decide) ⟨ix_v hp 2 (by decide), ix_v hq 2 (by decide), nm_r (r 2 (by decide) _) (nm_r (e' := 3) (by decide) ?_)⟩
  refine br_f (by decide) ⟨ix_v hp 3 (by decide), ix_v hq 3 (by decide), nm_r (r 3 (by decide) _) (nm_r (e' := 4) (by decide) ?_)⟩
  refine br_f (by decide) ⟨ix_v hp 4 (by decide), ix_v hq 4 (by decide), nm_r (r 4 (by decide) _) (nm_r (e' := 5) (by decide) ?_)⟩
  refine br_t (by decide) (yy_clear hp ?_)
  have e1 : upd bC (5 * q) (bC (5 * p)) (5 * p + 1) = bC (5 * p + 1) := pk_un (by omega)
  have e2 : upd (upd bC (5 * q) (bC (5 * p))) (5 * q + 1) (bC (5 * p + 1)) (5 * p + 2) = bC (5 * p + 2) := by rw [pk_un (by omega), pk_un (by omega)]
  have e3 : upd (upd (upd bC (5 * q) (bC (5 * p))) (5 * q + 1) (bC (5 * p + 1))) (5 * q + 2) (bC (5 * p + 2)) (5 * p + 3) = bC (5 * p + 3) := by rw [pk_un (by omega), pk_un (by omega), pk_un (by omega)]
  have e4 : upd (upd (upd (upd bC (5 * q) (bC (5 * p))) (5 * q + 1) (bC (5 * p + 1))) (5 * q + 2) (bC (5 * p + 2))) (5 * q + 3) (bC (5 * p + 3)) (5 * p + 4) = bC (5 * p + 4) := by rw [pk_un (by omega), pk_un (by omega), pk_un (by omega), pk_un (by omega)]
  rw [e1, e2, e3, e4]
  exact h
/-- Y's settle, the tail from row 276 -/
theorem yy_w276 {post : SY → Prop} {p : Nat} (hp : p < 24) (h : post (nI P, nI Q, op, wh, nx, cu, sn, sc, ou, rk, pn, dn, upd (upd bC (5 * p + 2) (bC (5 * p + 4))) (5 * p + 4) 0, bB, bV, bD, aS, aI, aO, aA, bR)) : wY_write_276 post (nI (5 * p)) (nI P) (nI Q) op wh nx cu sn sc ou rk pn dn bC bB bV bD aS aI aO aA bR := by
  have c4 : (nI (5 * p) + 4).toNatClampNeg = 5 * p + 4 := ix_c hp 4 (by decide)
  have c2 : (nI (5 * p) + 2).toNatClampNeg = 5 * p + 2 := ix_c hp 2 (by decide)
  unfold wY_write_276
  rw [c4, c2]
  exact ⟨ix_v hp 4 (by decide), ix_v hp 2 (by decide), nm_e ⟨ix_v hp 4 (by decide), nm_e h⟩⟩
theorem lk_settle {w c p : Nat} (hw : w < 6) (hp : p < 24) (hE : cl_E aC bC) :
    ∃ (v : Int32) (b' : Nat → Int32), cl_E (upd aC p v) b' ∧ (∀ post : Int32 → Prop, post v → wpX_settled post (nI P, nI Q, op, wh, pn, nx, cu, ou, dn, rk, sn, sc, aC, aD, aS, aI, aO, aA, aR, aG, aT, aJ, aK) (aC p)) ∧ (∀ (post : SY → Prop) (e : Int32), post (nI P, nI Q, op, wh, 8, cu, sn, sc, ou, rk, pn, dn, b', bB, bV, bD, aS, aI, aO, aA, bR) → wY_write_90 post (nI (5 * p)) e (nI P) (nI Q) op wh 8 cu sn sc ou rk pn dn bC bB bV bD aS aI aO aA bR) := by
  obtain ⟨e0, e1, e2, e3, e4, e5⟩ := hE p hp
  have c4 : (nI (5 * p) + 4).toNatClampNeg = 5 * p + 4 := ix_c hp 4 (by decide)
  have c2 : (nI (5 * p) + 2).toNatClampNeg = 5 * p + 2 := ix_c hp 2 (by decide)
  have v4 : vp_in (nI (5 * p) + 4) 120 := ix_v hp 4 (by decide)
  have v2 : vp_in (nI (5 * p) + 2) 120 := ix_v hp 2 (by decide)
  obtain ⟨n0, b0, f0⟩ := cl_cnE (aC p)
  obtain ⟨n1, b1, f1⟩ := cl_owE (aC p)
  obtain ⟨n2, b2, f2⟩ := cl_shE (aC p)
  obtain ⟨n3, b3, f3⟩ := cl_cfE (aC p)
  obtain ⟨n4, b4, f4⟩ := cl_peE (aC p)
  -- Y from row 238
  have Hk : ∀ post : SY → Prop, post (nI P, nI Q, op, wh, 8, cu, sn, sc, ou, rk, pn, dn, upd (upd bC (5 * p + 2) (bC (5 * p + 4))) (5 * p + 4) 0, bB, bV, bD, aS, aI, aO, aA, bR) → ∀ z : Int32, (cl_sh (aC p) = cl_pe (aC p) ∨ z = 0) → wY_write_238 post (nI (5 * p)) z (nI P) (nI Q) op wh 8 cu sn sc ou rk pn dn bC bB bV bD aS aI aO aA bR := by
    intro post h z hz
    unfold wY_write_238
    rw [c2, c4, e2, e4]
    refine ⟨v2, v4, br_c (fun _ => yy_w276 hp h) (fun y => br_t (hz.resolve_left y) (yy_w276 hp h))⟩
  have Hr : ∀ post : SY → Prop, post (nI P, nI Q, op, wh, 8, cu, sn, sc, ou, rk, pn, dn, upd (upd (upd bC (5 * p) (bC (5 * p + 4))) (5 * p + 2) (bC (5 * p + 4))) (5 * p + 4) 0, bB, bV, bD, aS, aI, aO, aA, bR) → ∀ z : Int32, ¬ cl_sh (aC p) = cl_pe (aC p) → ¬ z = 0 → wY_write_238 post (nI (5 * p)) z (nI P) (nI Q) op wh 8 cu sn sc ou rk pn dn bC bB bV bD aS aI aO aA bR := by
    intro post h z hy hz
    unfold wY_write_238
    rw [c2, c4, e2, e4, ix_c0 hp]
    refine ⟨v2, v4, br_f hy (br_f hz ⟨v4, ix_v0 hp, nm_e (yy_w276 hp ?_)⟩)⟩
    rw [pk_un (by omega : 5 * p + 4 ≠ 5 * p), ← e4]
    exact h
  have HY : ∀ (post : SY → Prop) (e : Int32), (cl_cn (aC p) = cl_sh (aC p) → wY_write_238 post (nI (5 * p)) 1 (nI P) (nI Q) op wh 8 cu sn sc ou rk pn dn bC bB bV bD aS aI aO aA bR) → (¬ cl_cn (aC p) = cl_sh (aC p) → cl_cn (aC p) = cl_pe (aC p) → wY_write_238 post (nI (5 * p)) 0 (nI P) (nI Q) op wh 8 cu sn sc ou rk pn dn bC bB bV bD aS aI aO aA bR) → (¬ cl_cn (aC p) = cl_sh (aC p) → ¬ cl_cn (aC p) = cl_pe (aC p) → pn = 0 → wY_write_238 post (nI (5 * p)) 0 (nI P) (nI Q) op wh 8 cu sn sc ou rk pn dn bC bB bV bD aS aI aO aA bR) → (¬ cl_cn (aC p) = cl_sh (aC p) → ¬ cl_cn (aC p) = cl_pe (aC p) → ¬ pn = 0 → wY_write_238 post (nI (5 * p)) 1 (nI P) (nI Q) op wh 8 cu sn sc ou rk pn dn bC bB bV bD aS aI aO aA bR) → wY_write_90 post (nI (5 * p)) e (nI P) (nI Q) op wh 8 cu sn sc ou rk pn dn bC bB bV bD aS aI aO aA bR := by
    intro post e g1 g2 g3 g4
    refine br_f (by decide) (br_f (by decide) (br_t rfl ?_))
    rw [c2, c4, ix_c0 hp, e0, e2, e4]
    exact ⟨ix_v0 hp, v2, br_c (fun y => g1 y) (fun y => ⟨ix_v0 hp, v4, br_c (fun t => g2 y t) (fun t => br_c (fun s => g3 y t s) (fun s => g4 y t s))⟩)⟩
  have hor : (¬ cl_sh (aC p) = cl_pe (aC p) ∧ (cl_cn (aC p) = cl_sh (aC p) ∨ (¬ cl_cn (aC p) = cl_pe (aC p) ∧ ¬ pn = 0))) ∨ ¬ (¬ cl_sh (aC p) = cl_pe (aC p) ∧ (cl_cn (aC p) = cl_sh (aC p) ∨ (¬ cl_cn (aC p) = cl_pe (aC p) ∧ ¬ pn = 0))) := Decidable.em _
  rcases hor with ⟨hs, hr⟩ | hk
  · refine ⟨cl_mk (cl_pe (aC p)) (cl_ow (aC p)) (cl_pe (aC p)) (cl_cf (aC p)) 0, upd (upd (upd bC (5 * p) (bC (5 * p + 4))) (5 * p + 2) (bC (5 * p + 4))) (5 * p + 4) 0, ?_, fun post h => ?_, fun post e h => ?_⟩
    · have hm := cl_mkF b4 b1 b4 b3 (d := 0) (by decide)
      rw [← f1, ← f3, ← f4] at hm
      obtain ⟨m0, m1, m2, m3, m4⟩ := hm
      refine cl_Eupd hE (fun j hj => ?_) ?_ ?_ ?_ ?_ ?_ ?_
      · rw [pk_un (by omega), pk_un (by omega), pk_un (by omega)]
      · rw [pk_un (by omega), pk_un (by omega), pk_us, e4]; exact m0.symm
      · rw [pk_un (by omega), pk_un (by omega), pk_un (by omega), e1]; exact m1.symm
      · rw [pk_un (by omega), pk_us, e4]; exact m2.symm
      · rw [pk_un (by omega), pk_un (by omega), pk_un (by omega), e3]; exact m3.symm
      · rw [pk_us]; exact m4.symm
      · exact fun y => e5 (m1.symm.trans y)
    · unfold wpX_settled
      refine xx_cn (xx_ow (xx_sh (xx_cf (xx_pe (br_f hs ?_)))))
      by_cases h1 : cl_cn (aC p) = cl_sh (aC p)
      · exact br_t h1 h
      · have h2 := hr.resolve_left h1
        exact br_f h1 (br_f h2.1 (br_f h2.2 h))
    · refine HY post e (fun _ => Hr post h 1 hs (by decide)) (fun y t => ?_) (fun y t s => ?_) (fun _ _ _ => Hr post h 1 hs (by decide))
      · exact absurd t (hr.resolve_left y).1
      · exact absurd s (hr.resolve_left y).2
  · refine ⟨cl_mk (cl_cn (aC p)) (cl_ow (aC p)) (cl_pe (aC p)) (cl_cf (aC p)) 0, upd (upd bC (5 * p + 2) (bC (5 * p + 4))) (5 * p + 4) 0, ?_, fun post h => ?_, fun post e h => ?_⟩
    · have hm := cl_mkF b0 b1 b4 b3 (d := 0) (by decide)
      rw [← f0, ← f1, ← f3, ← f4] at hm
      obtain ⟨m0, m1, m2, m3, m4⟩ := hm
      refine cl_Eupd hE (fun j hj => ?_) ?_ ?_ ?_ ?_ ?_ ?_
      · rw [pk_un (by omega), pk_un (by omega)]
      · rw [pk_un (by omega), pk_un (by omega), e0]; exact m0.symm
      · rw [pk_un (by omega), pk_un (by omega), e1]; exact m1.symm
      · rw [pk_un (by omega), pk_us, e4]; exact m2.symm
      · rw [pk_un (by omega), pk_un (by omega), e3]; exact m3.symm
      · rw [pk_us]; exact m4.symm
      · exact fun y => e5 (m1.symm.trans y)
    · unfold wpX_settled
      refine xx_cn (xx_ow (xx_sh (xx_cf (xx_pe ?_))))
      by_cases hs : cl_sh (aC p) = cl_pe (aC p)
      · exact br_t hs h
      · have h1 : ¬ cl_cn (aC p) = cl_sh (aC p) := fun y => hk ⟨hs, Or.inl y⟩
        refine br_f hs (br_f h1 ?_)
        by_cases h2 : cl_cn (aC p) = cl_pe (aC p)
        · exact br_t h2 h
        · refine br_f h2 (br_t ?_ h)
          exact Decidable.byContradiction (fun y => hk ⟨hs, Or.inr ⟨h2, y⟩⟩)
    · refine HY post e (fun y => Hk post h 1 ?_) (fun y t => Hk post h 0 (Or.inr rfl)) (fun y t s => Hk post h 0 (Or.inr rfl)) (fun y t s => Hk post h 1 ?_)
      · exact Or.inl (Decidable.byContradiction (fun z => hk ⟨z, Or.inl y⟩))
      · exact Or.inl (Decidable.byContradiction (fun z => hk ⟨z, Or.inr ⟨t, s⟩⟩))
theorem lk_drop {p : Nat} (hp : p < 24) (hE : cl_E aC bC) :
    ∃ (v : Int32) (b' : Nat → Int32), cl_E (upd aC p v) b' ∧ (∀ post : Int32 → Prop, post v → wpX_dropped post (nI P, nI Q, op, wh, pn, nx, cu, ou, dn, rk, sn, sc, aC, aD, aS, aI, aO, aA, aR, aG, aT, aJ, aK) (aC p)) ∧ (∀ (post : SY → Prop) (e : Int32), post (nI P, nI Q, op, wh, 7, cu, sn, sc, ou, rk, pn, dn, b', bB, bV, bD, aS, aI, aO, aA, bR) → wY_write_90 post (nI (5 * p)) e (nI P) (nI Q) op wh 7 cu sn sc ou rk pn dn bC bB bV bD aS aI aO aA bR) := by
  obtain ⟨e0, e1, e2, e3, e4, e5⟩ := hE p hp
  have c4 : (nI (5 * p) + 4).toNatClampNeg = 5 * p + 4 := ix_c hp 4 (by decide)
  have c3 : (nI (5 * p) + 3).toNatClampNeg = 5 * p + 3 := ix_c hp 3 (by decide)
  have hz : cl_E (upd aC p 0) (u5_f bC p 0 (-1) 0 0 0) := u5_E hE cl_0F.1.symm cl_0F.2.1.symm cl_0F.2.2.1.symm cl_0F.2.2.2.1.symm cl_0F.2.2.2.2.symm (by rw [cl_0F.2.1]; decide)
  by_cases h4 : op = 4
  · exact ⟨0, _, hz, fun post h => br_t h4 h, fun post e h => br_f (by decide) (br_t rfl (br_t h4 (yy_clear hp h)))⟩
  · by_cases hc : cl_cf (aC p) = 0
    · refine ⟨0, _, hz, fun post h => br_f h4 (xx_cf (br_t hc h)), fun post e h => br_f (by decide) (br_t rfl (br_f h4 ⟨ix_v hp 3 (by decide), ?_⟩))⟩
      rw [c3, e3, hc]
      exact br_f (by decide) (yy_clear hp h)
    · have hc1 : cl_cf (aC p) = 1 := (cl_cf01 _).resolve_left hc
      obtain ⟨n0, b0, f0⟩ := cl_cnE (aC p)
      obtain ⟨n1, b1, f1⟩ := cl_owE (aC p)
      obtain ⟨n2, b2, f2⟩ := cl_shE (aC p)
      have hm := cl_mkF b0 b1 b2 (f := 1) (d := 0) (by decide) (by decide)
      rw [← f0, ← f1, ← f2] at hm
      obtain ⟨m0, m1, m2, m3, m4⟩ := hm
      refine ⟨cl_mk (cl_cn (aC p)) (cl_ow (aC p)) (cl_sh (aC p)) 1 0, upd bC (5 * p + 4) 0, ?_, fun post h => ?_, fun post e h => ?_⟩
      · refine cl_Eupd hE (fun j hj => ?_) ?_ ?_ ?_ ?_ ?_ ?_
        · rw [pk_un (by omega)]
        · rw [pk_un (by omega), e0]; exact m0.symm
        · rw [pk_un (by omega), e1]; exact m1.symm
        · rw [pk_un (by omega), e2]; exact m2.symm
        · rw [pk_un (by omega), e3, hc1]; exact m3.symm
        · rw [pk_us]; exact m4.symm
        · exact fun y => e5 (m1.symm.trans y)
      · exact br_f h4 (xx_cf (br_f hc (xx_cn (xx_ow (xx_sh (xx_mk h))))))
      · refine br_f (by decide) (br_t rfl (br_f h4 ⟨ix_v hp 3 (by decide), ?_⟩))
        rw [c3, c4, e3]
        exact br_t hc1 ⟨ix_v hp 4 (by decide), nm_e h⟩
end
end
section
/-! ===== a file step, both sides ===== -/
section
variable {P Q : Nat} {op wh pn nx cu ou dn rk sn sc rj : Int32} {aC aD aS aI aO aA aR aG aT aJ aK bC bB bV bD bR : Nat → Int32}
theorem xx_w39 {post : SX → Prop} {p r : Nat} {v x : Int32} (hp : p < 24) (hr : r < 24) (h : post (nI P, nI Q, op, wh, pn, nx, cu, ou, dn, nI (r + 1), sn, sc, upd aC p v, aD, aS, aI, aO, aA, aR, aG, aT, upd aJ r (nI p), upd aK r x)) : wX_write_39 post (nI p) v x (nI P) (nI Q) op wh pn nx cu ou dn (nI r) sn sc aC aD aS aI aO aA aR aG aT aJ aK := by
  have cr : (nI r).toNatClampNeg = r := nI_clamp (by omega)
  have cp : (nI p).toNatClampNeg = p := nI_clamp (by omega)
  have vr : vp_in (nI r) 24 := vp_in_nI hr (by decide)
  have vq : vp_in (nI p) 24 := vp_in_nI hp (by decide)
  refine br_f (nI_ge (b := 24) hr (by decide)) ?_
  rw [cr, cp]
  exact ⟨vr, nm_e ⟨vr, nm_e (nm_r (e' := nI (r + 1)) (nI_1 r) ⟨vq, nm_e h⟩)⟩⟩
theorem xx_write {post : SX → Prop} {c p r : Nat} {v : Int32} (hc : c < 12) (hp : p < 24) (hr : r < 24)
    (h : post (nI P, nI Q, op, wh, pn, nx, nI c, ou, dn, nI (r + 1), sn, sc, upd aC p v, aD, aS, aI, aO, aA, aR, rl_tG aT aG c (aC p), rl_tT aT c, upd aJ r (nI p), upd aK r (aC p))) : wpX_write post (nI P, nI Q, op, wh, pn, nx, nI c, ou, dn, nI r, sn, sc, aC, aD, aS, aI, aO, aA, aR, aG, aT, aJ, aK) (nI p) v := by
  have cc : (nI c).toNatClampNeg = c := nI_clamp (by omega)
  have cp : (nI p).toNatClampNeg = p := nI_clamp (by omega)
  have vc : vp_in (nI c) 12 := vp_in_nI hc (by decide)
  have vq : vp_in (nI p) 24 := vp_in_nI hp (by decide)
  unfold wpX_write
  dsimp only
  rw [cc, cp]
  refine ⟨vq, nm_e ⟨vc, ?_⟩⟩
  by_cases z : aT c = 0
  · rw [show rl_tG aT aG c (aC p) = upd aG c (aC p) from if_pos z, show rl_tT aT c = upd aT c 1 from if_pos z] at h
    exact br_t z ⟨vc, nm_r (e' := upd aT c 1) rfl ⟨vc, nm_e (xx_w39 hp hr h)⟩⟩
  · rw [show rl_tG aT aG c (aC p) = aG from if_neg z, show rl_tT aT c = aT from if_neg z] at h
    exact br_f z (xx_w39 hp hr h)
theorem lk_unpack {w c p : Nat} (hw : w < 6) (hc : c < 12) (hp : p < 24) (hA : rl_A aA) (hE : cl_E aC bC) :
    ∃ (v : Int32) (b' : Nat → Int32), cl_E (upd aC p v) b' ∧ (∀ post : Int32 → Prop, post v → wpX_unpacked post (nI P, nI Q, op, nI w, pn, nx, nI c, ou, dn, rk, sn, sc, aC, aD, aS, aI, aO, aA, aR, aG, aT, aJ, aK) (aC p)) ∧ ((100 ≤ aA (12 * w + c) ∧ ∀ post : SY → Prop, post (nI P, nI Q, op, nI w, 4, cu, sn, sc, ou, rk, pn, dn, b', bB, bV, bD, aS, aI, aO, aA, bR) → wY_write_90 post (nI (5 * p)) (aA (12 * w + c)) (nI P) (nI Q) op (nI w) 4 cu sn sc ou rk pn dn bC bB bV bD aS aI aO aA bR) ∨ (¬ 100 ≤ aA (12 * w + c) ∧ b' = u5_f bC p (aA (12 * w + c)) (nI w) (aA (12 * w + c)) 0 0)) := by
  obtain ⟨e0, e1, e2, e3, e4, e5⟩ := hE p hp
  obtain ⟨e, he, ea⟩ := hA (12 * w + c) (by omega)
  have hw6 : ∀ w, w < 6 → ¬ nI w = 6 := by decide +kernel
  have c1 : (nI (5 * p) + 1).toNatClampNeg = 5 * p + 1 := ix_c hp 1 (by decide)
  have c3 : (nI (5 * p) + 3).toNatClampNeg = 5 * p + 3 := ix_c hp 3 (by decide)
  have c4 : (nI (5 * p) + 4).toNatClampNeg = 5 * p + 4 := ix_c hp 4 (by decide)
  by_cases h100 : 100 ≤ e
  · have hle : (100 : Int32) ≤ nI e := nI_le (a := 100) h100 (by omega)
    have es : nI e - 100 = nI (e - 100) := pk_sub h100
    obtain ⟨n0, b0, f0⟩ := cl_cnE (aC p)
    obtain ⟨n2, b2, f2⟩ := cl_shE (aC p)
    have hm := cl_mkF b0 (o := w + 1) (by omega) b2 (f := 1) (d := e - 100) (by decide) (by omega)
    rw [← f0, ← f2, nI_pred] at hm
    obtain ⟨m0, m1, m2, m3, m4⟩ := hm
    refine ⟨cl_mk (cl_cn (aC p)) (nI w) (cl_sh (aC p)) 1 (nI (e - 100)), upd (upd (upd bC (5 * p + 1) (nI w)) (5 * p + 3) 1) (5 * p + 4) (nI (e - 100)), ?_, fun post h => ?_, Or.inl ⟨by rw [ea]; exact hle, fun post h => ?_⟩⟩
    · refine cl_Eupd hE (fun j hj => ?_) ?_ ?_ ?_ ?_ ?_ ?_
      · rw [pk_un (by omega), pk_un (by omega), pk_un (by omega)]
      · rw [pk_un (by omega), pk_un (by omega), pk_un (by omega), e0]; exact m0.symm
      · rw [pk_un (by omega), pk_un (by omega), pk_us]; exact m1.symm
      · rw [pk_un (by omega), pk_un (by omega), pk_un (by omega), e2]; exact m2.symm
      · rw [pk_un (by omega), pk_us]; exact m3.symm
      · rw [pk_us]; exact m4.symm
      · exact fun y => hw6 w hw (m1.symm.trans y)
    · unfold wpX_unpacked
      dsimp only
      rw [ix_12x, nI_clamp (n := 12 * w + c) (by omega), ea, ]
      refine ⟨vp_in_nI (by omega) (by decide), nm_e (br_t hle (xx_cn (xx_sh (xx_mk ?_))))⟩
      rw [es]
      exact h
    · rw [ea]
      refine br_t rfl ?_
      rw [c1, c3, c4, es]
      exact ⟨ix_v hp 1 (by decide), nm_e ⟨ix_v hp 3 (by decide), nm_e ⟨ix_v hp 4 (by decide), nm_e h⟩⟩⟩
  · have hle : ¬ (100 : Int32) ≤ nI e := nI_ge (b := 100) (by omega) (by decide)
    have hm := cl_mkF (c := e) (o := w + 1) (s := e) (f := 0) (d := 0) (by omega) (by omega) (by omega) (by decide) (by decide)
    rw [nI_pred] at hm
    obtain ⟨m0, m1, m2, m3, m4⟩ := hm
    refine ⟨cl_mk (nI e) (nI w) (nI e) 0 0, u5_f bC p (nI e) (nI w) (nI e) 0 0, u5_E hE m0.symm m1.symm m2.symm m3.symm m4.symm (fun y => hw6 w hw (m1.symm.trans y)), fun post h => ?_, Or.inr ⟨by rw [ea]; exact hle, by rw [ea]⟩⟩
    unfold wpX_unpacked
    dsimp only
    rw [ix_12x, nI_clamp (n := 12 * w + c) (by omega), ea]
    exact ⟨vp_in_nI (by omega) (by decide), nm_e (br_f hle (xx_mk h))⟩
/-- what a file step writes -/
theorem lk_write {w c : Nat} {aB : Nat → Int32} (hw : w < 6) (hc : c < Q) (hQ : Q ≤ 12) (hA : rl_A aA) (hE : cl_E aC bC) (hB : cl_E aB bB) (hn : rl_fi nx)
    (ho : (aT c = 0 → aC (rl_pl Q bD (nI w) c) = aB (rl_pl Q bD (nI w) c)) ∧ (¬ aT c = 0 → aG c = aB (rl_pl Q bD (nI w) c))) :
    ∃ (v : Int32) (b' : Nat → Int32), cl_E (upd aC (rl_pl Q bD (nI w) c) v) b' ∧ (∀ post : Int32 → Prop, post v → wpX_changed post (nI P, nI Q, op, nI w, pn, nx, nI c, ou, dn, rk, sn, sc, aC, aD, aS, aI, aO, aA, aR, aG, aT, aJ, aK) (aC (rl_pl Q bD (nI w) c))) ∧ (∀ post : SY → Prop, post (nI P, nI Q, op, nI w, nx, nI c, sn, sc, ou, rk, pn, dn, b', bB, bV, bD, aS, aI, aO, aA, bR) → wpY_write post (nI P, nI Q, op, nI w, nx, nI c, sn, sc, ou, rk, pn, dn, bC, bB, bV, bD, aS, aI, aO, aA, bR)) := by
  have hp : rl_pl Q bD (nI w) c < 24 := Nat.lt_of_lt_of_le (rl_pl_lt hc) (by omega)
  have HY : ∀ post : SY → Prop, ¬ nx = 4 → wY_write_90 post (nI (5 * rl_pl Q bD (nI w) c)) (aA (12 * w + c)) (nI P) (nI Q) op (nI w) nx (nI c) sn sc ou rk pn dn bC bB bV bD aS aI aO aA bR → wpY_write post (nI P, nI Q, op, nI w, nx, nI c, sn, sc, ou, rk, pn, dn, bC, bB, bV, bD, aS, aI, aO, aA, bR) := by
    intro post h4 h
    unfold wpY_write
    refine yy_at (by omega) ?_
    rw [ix_12y, nI_clamp (n := 12 * w + c) (by omega)]
    exact ⟨vp_in_nI (by omega) (by decide), nm_e (br_f h4 h)⟩
  rcases hn with rfl | rfl | rfl | rfl
  · obtain ⟨v, b', hE', hX, hY⟩ := lk_unpack (P := P) (Q := Q) (op := op) (pn := pn) (nx := 4) (ou := ou) (dn := dn) (rk := rk) (sn := sn) (sc := sc) (aD := aD) (aS := aS) (aI := aI) (aO := aO) (aR := aR) (aG := aG) (aT := aT) (aJ := aJ) (aK := aK) (bB := bB) (bV := bV) (bD := bD) (bR := bR) (cu := nI c) hw (by omega : c < 12) hp hA hE
    refine ⟨v, b', hE', fun post h => br_f (by decide) (br_f (by decide) (br_t rfl (hX _ h))), fun post h => ?_⟩
    unfold wpY_write
    refine yy_at (by omega) ?_
    rw [ix_12y, nI_clamp (n := 12 * w + c) (by omega)]
    refine ⟨vp_in_nI (by omega) (by decide), nm_e (br_t rfl ?_)⟩
    rcases hY with ⟨h1, hY⟩ | ⟨h1, rfl⟩
    · exact br_t h1 (hY post h)
    · refine br_f h1 ?_
      exact ⟨ix_v0 hp, nm_r (congrArg (fun k => upd bC k (aA (12 * w + c))) (ix_c0 hp)) ⟨ix_v hp 1 (by decide), nm_r (congrArg (fun k => upd _ k (nI w)) (ix_c hp 1 (by decide))) ⟨ix_v hp 2 (by decide), nm_r (congrArg (fun k => upd _ k (aA (12 * w + c))) (ix_c hp 2 (by decide))) ⟨ix_v hp 3 (by decide), nm_r (congrArg (fun k => upd _ k 0) (ix_c hp 3 (by decide))) ⟨ix_v hp 4 (by decide), nm_r (congrArg (fun k => upd _ k 0) (ix_c hp 4 (by decide))) h⟩⟩⟩⟩⟩
  · obtain ⟨v, b', hE', hX, hY⟩ := lk_drop (P := P) (Q := Q) (op := op) (wh := nI w) (pn := pn) (nx := 7) (cu := nI c) (ou := ou) (dn := dn) (rk := rk) (sn := sn) (sc := sc) (aD := aD) (aS := aS) (aI := aI) (aO := aO) (aA := aA) (aR := aR) (aG := aG) (aT := aT) (aJ := aJ) (aK := aK) (bB := bB) (bV := bV) (bD := bD) (bR := bR) hp hE
    exact ⟨v, b', hE', fun post h => br_f (by decide) (br_f (by decide) (br_f (by decide) (br_f (by decide) (br_f (by decide) (br_t rfl (hX _ h)))))), fun post h => HY post (by decide) (hY post _ h)⟩
  · obtain ⟨v, b', hE', hX, hY⟩ := lk_settle (P := P) (Q := Q) (op := op) (wh := nI w) (pn := pn) (nx := 8) (cu := nI c) (ou := ou) (dn := dn) (rk := rk) (sn := sn) (sc := sc) (aD := aD) (aS := aS) (aI := aI) (aO := aO) (aA := aA) (aR := aR) (aG := aG) (aT := aT) (aJ := aJ) (aK := aK) (bB := bB) (bV := bV) (bD := bD) (bR := bR) hw (c := c) hp hE
    exact ⟨v, b', hE', fun post h => br_f (by decide) (br_f (by decide) (br_f (by decide) (br_f (by decide) (br_f (by decide) (br_f (by decide) (br_t rfl (hX _ h))))))), fun post h => HY post (by decide) (hY post _ h)⟩
  · obtain ⟨g0, g1, g2, g3, g4, g5⟩ := hB _ hp
    have cc : (nI c).toNatClampNeg = c := nI_clamp (by omega)
    refine ⟨aB (rl_pl Q bD (nI w) c), _, u5_E hE g0 g1 g2 g3 g4 g5, fun post h => ?_, fun post h => HY post (by decide) (br_f (by decide) (br_f (by decide) (br_f (by decide) (Exists.intro 6 (yy_w306 hp h)))))⟩
    refine br_f (by decide) (br_t (by decide) ?_)
    unfold wX_changed_58
    rw [cc]
    refine ⟨vp_in_nI (by omega) (by decide), br_c (fun z => ?_) (fun z => ⟨vp_in_nI (by omega) (by decide), ?_⟩)⟩
    · rw [ho.1 z]; exact h
    · rw [ho.2 z]; exact h
/-- X: the file step that goes well, a run -/
theorem xx_fsE {post : Int32 → SX → Prop} {w c r : Nat} {v k' r' : Int32} (hc : c < Q) (hQ : Q ≤ 12) (hr : r < 24) (hD : rl_D aD bD) (h12 : ¬ nx = 12)
    (hch : ∀ post : Int32 → Prop, post v → wpX_changed post (nI P, nI Q, op, nI w, pn, nx, nI c, ou, dn, nI r, sn, sc, aC, aD, aS, aI, aO, aA, aR, aG, aT, aJ, aK) (aC (rl_pl Q bD (nI w) c)))
    (hen : ∀ post : SX → Prop, post (nI P, nI Q, op, nI w, pn, k', r', ou, dn, nI (r + 1), sn, sc, upd aC (rl_pl Q bD (nI w) c) v, aD, aS, aI, aO, aA, aR, rl_tG aT aG c (aC (rl_pl Q bD (nI w) c)), rl_tT aT c, upd aJ r (nI (rl_pl Q bD (nI w) c)), upd aK r (aC (rl_pl Q bD (nI w) c))) → wpX_enter post (nI P, nI Q, op, nI w, pn, nx, nI c, ou, dn, nI (r + 1), sn, sc, upd aC (rl_pl Q bD (nI w) c) v, aD, aS, aI, aO, aA, aR, rl_tG aT aG c (aC (rl_pl Q bD (nI w) c)), rl_tT aT c, upd aJ r (nI (rl_pl Q bD (nI w) c)), upd aK r (aC (rl_pl Q bD (nI w) c))) nx (nI c + 1))
    (h : post 1 (nI P, nI Q, op, nI w, pn, k', r', ou, dn, nI (r + 1), sn, sc, upd aC (rl_pl Q bD (nI w) c) v, aD, aS, aI, aO, aA, aR, rl_tG aT aG c (aC (rl_pl Q bD (nI w) c)), rl_tT aT c, upd aJ r (nI (rl_pl Q bD (nI w) c)), upd aK r (aC (rl_pl Q bD (nI w) c)))) :
    wX_fileStep_33 post (nI P) (nI Q) op (nI w) pn nx (nI c) ou dn (nI r) sn sc aC aD aS aI aO aA aR aG aT aJ aK := by
  have hp : rl_pl Q bD (nI w) c < 24 := Nat.lt_of_lt_of_le (rl_pl_lt hc) (by omega)
  have hDc : bD c = aD c - 1 := by
    obtain ⟨e, _, ea, eb⟩ := hD c (by omega)
    rw [ea, eb]
  unfold wX_fileStep_33
  refine xx_place (by omega) hDc ⟨vp_in_nI hp (by decide), ?_⟩
  rw [nI_clamp (n := rl_pl Q bD (nI w) c) (by omega)]
  refine hch _ (xx_write (by omega) hp hr (br_f h12 (hen _ h)))
/-- X: the file step that goes well, RESTORE -/
theorem xx_fsR {post : Int32 → SX → Prop} {w c r : Nat} {v : Int32} (hw : w < 6) (hc : c < Q) (hQ : Q ≤ 12) (hr : r < 24) (hD : rl_D aD bD)
    (hch : ∀ post : Int32 → Prop, post v → wpX_changed post (nI P, nI Q, op, nI w, pn, 12, nI c, ou, dn, nI r, sn, sc, aC, aD, aS, aI, aO, aA, aR, aG, aT, aJ, aK) (aC (rl_pl Q bD (nI w) c)))
    (h : post 1 (nI P, nI Q, op, nI w, pn, rb_n (rb_f aA (12 * w) c), rb_f aA (12 * w) c, ou, dn, nI (r + 1), sn, sc, upd aC (rl_pl Q bD (nI w) c) v, aD, aS, aI, aO, aA, aR, rl_tG aT aG c (aC (rl_pl Q bD (nI w) c)), rl_tT aT c, upd aJ r (nI (rl_pl Q bD (nI w) c)), upd aK r (aC (rl_pl Q bD (nI w) c)))) :
    wX_fileStep_33 post (nI P) (nI Q) op (nI w) pn 12 (nI c) ou dn (nI r) sn sc aC aD aS aI aO aA aR aG aT aJ aK := by
  have hp : rl_pl Q bD (nI w) c < 24 := Nat.lt_of_lt_of_le (rl_pl_lt hc) (by omega)
  have hDc : bD c = aD c - 1 := by
    obtain ⟨e, _, ea, eb⟩ := hD c (by omega)
    rw [ea, eb]
  unfold wX_fileStep_33
  refine xx_place (by omega) hDc ⟨vp_in_nI hp (by decide), ?_⟩
  rw [nI_clamp (n := rl_pl Q bD (nI w) c) (by omega)]
  refine hch _ (xx_write (by omega) hp hr (br_t rfl (xx_rb hw (by omega) h)))
/-- X: the file step that fails -/
theorem xx_fs19 {post : Int32 → SX → Prop} {w c : Nat} (hw : w < 6) (hc : c ≤ 12)
    (h : post 2 (nI P, nI Q, op, nI w, pn, rb_n (rb_f aA (12 * w) c), rb_f aA (12 * w) c, ou, dn, 0, rb_n (rb_f aA (12 * w) c), rb_f aA (12 * w) c, aC, aD, aS, aI, aO, aA, aR, aG, aT, aJ, aK)) :
    wX_fileStep_19 post (nI P) (nI Q) op (nI w) pn nx (nI c) ou dn rk sn sc aC aD aS aI aO aA aR aG aT aJ aK := by
  unfold wX_fileStep_19
  exact xx_rb hw hc (xx_save h)
/-- Y: behind a good file step -/
theorem yy_well {post : Int32 → SY → Prop} {r : Nat} (ho : ¬ op = 0) (h : post 1 (nI P, nI Q, op, wh, nx, cu, sn, sc, ou, nI (r + 1), pn, dn, bC, bB, bV, bD, aS, aI, aO, aA, bR)) : wY_step_176 post 1 1 (nI P) (nI Q) op wh nx cu sn sc ou (nI r) pn dn bC bB bV bD aS aI aO aA bR :=
  br_f (by decide) (br_f (by decide) (nm_r (e' := nI (r + 1)) (nI_1 r) (br_f ho (br_f (by decide) h))))
theorem yy_fsE {post : Int32 → SY → Prop} {w c r : Nat} {k' r' : Int32} {b' : Nat → Int32} (ho : ¬ op = 0) (h11 : ¬ nx = 11) (h12 : ¬ nx = 12) (h13 : ¬ nx = 13) (h14 : ¬ nx = 14) (h10 : ¬ nx = 10)
    (hwr : ∀ post : SY → Prop, post (nI P, nI Q, op, nI w, nx, nI c, sn, sc, ou, nI r, pn, dn, b', bB, bV, bD, aS, aI, aO, aA, bR) → wpY_write post (nI P, nI Q, op, nI w, nx, nI c, sn, sc, ou, nI r, pn, dn, bC, bB, bV, bD, aS, aI, aO, aA, bR))
    (hfw : ∀ post : SY → Prop, post (nI P, nI Q, op, nI w, k', r', sn, sc, ou, nI r, pn, dn, b', bB, bV, bD, aS, aI, aO, aA, bR) → wpY_forward post (nI P, nI Q, op, nI w, nx, nI c, sn, sc, ou, nI r, pn, dn, b', bB, bV, bD, aS, aI, aO, aA, bR))
    (h : post 1 (nI P, nI Q, op, nI w, k', r', sn, sc, ou, nI (r + 1), pn, dn, b', bB, bV, bD, aS, aI, aO, aA, bR)) : wY_step_147 post 1 1 (nI P) (nI Q) op (nI w) nx (nI c) sn sc ou (nI r) pn dn bC bB bV bD aS aI aO aA bR :=
  br_f (by decide) (br_f (by decide) (hwr _ (br_f (by decide) (br_f h11 (br_f h12 (br_f h13 (br_f h13 (br_f h14 (br_f h10 (hfw _ (yy_well ho h)))))))))))
theorem yy_fsR {post : Int32 → SY → Prop} {w c r : Nat} {b' : Nat → Int32} (hw : w < 6) (hc : c ≤ 12) (ho : ¬ op = 0)
    (hwr : ∀ post : SY → Prop, post (nI P, nI Q, op, nI w, 12, nI c, sn, sc, ou, nI r, pn, dn, b', bB, bV, bD, aS, aI, aO, aA, bR) → wpY_write post (nI P, nI Q, op, nI w, 12, nI c, sn, sc, ou, nI r, pn, dn, bC, bB, bV, bD, aS, aI, aO, aA, bR))
    (h : post 1 (nI P, nI Q, op, nI w, rb_n (rb_f aA (12 * w) c), rb_f aA (12 * w) c, sn, sc, ou, nI (r + 1), pn, dn, b', bB, bV, bD, aS, aI, aO, aA, bR)) : wY_step_147 post 1 1 (nI P) (nI Q) op (nI w) 12 (nI c) sn sc ou (nI r) pn dn bC bB bV bD aS aI aO aA bR :=
  br_f (by decide) (br_f (by decide) (hwr _ (br_f (by decide) (br_f (by decide) (br_t rfl (yy_rb hw hc (yy_well ho h)))))))
/-- Y: the file step that fails -/
theorem yy_fs19 {post : Int32 → SY → Prop} {w c : Nat} (hw : w < 6) (hc : c ≤ 12) (ho : ¬ op = 0)
    (h : post 2 (nI P, nI Q, op, nI w, rb_n (rb_f aA (12 * w) c), rb_f aA (12 * w) c, rb_n (rb_f aA (12 * w) c), rb_f aA (12 * w) c, ou, 0, pn, dn, bC, bB, cp_f bC bV 0 120, bD, aS, aI, aO, aA, bR)) :
    wY_step_147 post 1 0 (nI P) (nI Q) op (nI w) 4 (nI c) sn sc ou rk pn dn bC bB bV bD aS aI aO aA bR :=
  br_f (by decide) (br_t rfl (br_t rfl (br_f (by decide) (br_f (by decide) (br_f (by decide) (br_f (by decide) (br_t rfl (yy_rb hw hc (br_f (by decide) (br_t rfl (yy_save (br_f ho (br_t rfl h)))))))))))))
end
end
section
/-! ===== the constructors ===== -/
theorem in_cl {x : Int32} {h : Nat} (hh : h < 100) (h2 : 2 ≤ x) (h6 : x ≤ nI h) : ∃ j : Nat, 2 ≤ j ∧ j ≤ h ∧ x = nI j := by
  have h0 : ¬ x < 0 := by
    intro z
    have a := Int32.lt_iff_toInt_lt.mp z
    have b := Int32.le_iff_toInt_le.mp h2
    rw [show (0 : Int32).toInt = 0 from by decide] at a
    rw [show (2 : Int32).toInt = 2 from by decide] at b
    omega
  obtain ⟨j, hj, rfl⟩ := nI_of h0
  exact ⟨j, (nI_leI (a := 2) (by decide) hj).mp h2, (nI_leI hj (by omega)).mp h6, rfl⟩
def in_D (P Q : Nat) : SX := (nI P, nI Q, 0, -1, 0, 0, -1, 0, 0, 0, 0, -1, fun _ => 0, fun _ => 0, fun _ => 0, fun _ => 0, fun _ => 0, fun _ => 0, fun _ => 0, fun _ => 0, fun _ => 0, fun _ => 0, fun _ => 0)
def in_I (i : Nat) (b : Nat → Int32) : Prop := (∀ p, p < i → b (5 * p + 1) = -1) ∧ (∀ j, (∀ p, p < i → j ≠ 5 * p + 1) → b j = 0)
section
variable {P Q : Nat} {op wh pn nx cu ou dn rk sn sc rj : Int32} {aC aD aS aI aO aA aR aG aT aJ aK bC bB bV bD bR : Nat → Int32}
theorem yy_i168 {post : SY → Prop} : ∀ (d i : Nat), i + d = 12 → ∀ (bD : Nat → Int32), post (nI P, nI Q, op, wh, nx, cu, sn, sc, ou, rk, pn, dn, bC, bB, bV, cp_f (fun _ => -1) bD i 12, aS, aI, aO, aA, bR) → wY_init_168 post (nI P) (nI Q) op wh nx cu sn sc ou rk pn dn (d + 1) (nI i) bC bB bV bD aS aI aO aA bR := by
  intro d
  induction d with
  | zero =>
    intro i hi bD hp
    obtain rfl : i = 12 := by omega
    rw [cp_e] at hp
    exact br_t (by decide) hp
  | succ d ih =>
    intro i hi bD hp
    have hv : vp_in (nI i) 12 := vp_in_nI (by omega) (by decide)
    refine br_f (nI_ge (b := 12) (by omega) (by decide)) ⟨hv, nm_r (e' := upd bD i ((fun _ => -1) i)) (by rw [nI_clamp (n := i) (by omega)]) (nm_r (e' := nI (i + 1)) (nI_1 i) (ih (i + 1) (by omega) _ ?_))⟩
    rw [cp_s (by omega)]
    exact hp
theorem yy_i143 {post : SY → Prop} (H : ∀ bC : Nat → Int32, in_I 24 bC → post (nI P, nI Q, op, wh, nx, cu, sn, sc, ou, rk, pn, dn, bC, bB, bV, cp_f (fun _ => -1) bD 0 12, aS, aI, aO, aA, bR)) : ∀ (d i : Nat), i + d = 24 → ∀ (bC : Nat → Int32), in_I i bC → wY_init_143 post (nI P) (nI Q) op wh nx cu sn sc ou rk pn dn (d + 1) (nI i) bC bB bV bD aS aI aO aA bR := by
  intro d
  induction d with
  | zero =>
    intro i hi bC hI
    obtain rfl : i = 24 := by omega
    exact br_t (by decide) (Exists.intro 13 (yy_i168 12 0 rfl bD (H bC hI)))
  | succ d ih =>
    intro i hi bC hI
    refine br_f (nI_ge (b := 24) (by omega) (by decide)) ?_
    rw [ix_5, nI_1, nI_1, nI_clamp (n := 5 * i + 1) (by omega)]
    refine ⟨vp_in_nI (by omega) (by decide), nm_e (nm_e (ih (i + 1) (by omega) _ ⟨fun p hp => ?_, fun j hj => ?_⟩))⟩
    · by_cases e : p = i
      · subst e
        exact pk_us
      · rw [pk_un (by omega)]
        exact hI.1 p (by omega)
    · rw [pk_un (hj i (by omega))]
      exact hI.2 j (fun p hp => hj p (by omega))
end
theorem in_E {b : Nat → Int32} (h : in_I 24 b) : cl_E (fun _ => 0) b := by
  intro p hp
  obtain ⟨z0, z1, z2, z3, z4⟩ := cl_0F
  refine ⟨?_, ?_, ?_, ?_, ?_, ?_⟩
  · show b (5 * p) = cl_cn 0
    rw [z0]; exact h.2 _ (fun q _ => by omega)
  · show b (5 * p + 1) = cl_ow 0
    rw [z1]; exact h.1 p hp
  · show b (5 * p + 2) = cl_sh 0
    rw [z2]; exact h.2 _ (fun q _ => by omega)
  · show b (5 * p + 3) = cl_cf 0
    rw [z3]; exact h.2 _ (fun q _ => by omega)
  · show b (5 * p + 4) = cl_pe 0
    rw [z4]; exact h.2 _ (fun q _ => by omega)
  · show ¬ cl_ow 0 = 6
    rw [z1]; decide
theorem in_F {P Q : Nat} {b bB bV : Nat → Int32} (h1 : 2 ≤ P) (h2 : P ≤ 6) (h3 : 2 ≤ Q) (h4 : Q ≤ 12) (h : in_I 24 b) :
    rl_F P Q 0 (-1) 0 (-1) 0 0 (-1) (fun _ => 0) (fun _ => 0) (fun _ => 0) (fun _ => 0) (fun _ => 0) (fun _ => 0) (fun _ => 0) (fun _ => 0) (fun _ => 0) b bB bV (cp_f (fun _ => -1) (fun _ => 0) 0 12) (fun _ => 0) := by
  refine ⟨⟨h1, h2, h3, h4, in_E h, fun q hq => ⟨0, by omega, rfl, ?_⟩, fun k _ => ⟨0, by omega, rfl⟩, fun i _ => ⟨0, by omega, rfl⟩, fun i _ => Or.inl ⟨rfl, rfl, rfl⟩⟩, Or.inl ⟨rfl, rfl, rfl, rfl, rfl, rfl, rfl⟩⟩
  rw [cp_in (by omega) hq]
  decide
/-- the constructors' clamps, both sides -/
theorem in_K (k0 k1 : Int32) : ∃ P Q : Nat, 2 ≤ P ∧ P ≤ 6 ∧ 2 ≤ Q ∧ Q ≤ 12 ∧ (∀ post : SX → Prop, post (in_D P Q) → wpX_init post k0 k1) ∧ (∀ post : SY → Prop, (∃ n : Nat, wY_init_143 post (nI P) (nI Q) 0 (-1) 0 (-1) 0 (-1) 0 0 0 0 n 0 (fun _ => 0) (fun _ => 0) (fun _ => 0) (fun _ => 0) (fun _ => 0) (fun _ => 0) (fun _ => 0) (fun _ => 0) (fun _ => 0)) → wpY_init post k0 k1) := by
  have HQ : ∃ Q : Nat, 2 ≤ Q ∧ Q ≤ 12 ∧ (∀ (post : SX → Prop) (P : Nat), post (in_D P Q) → wX_init_164 post k1 (nI P) 0 0 0 (-1) 0 0 (-1) 0 0 0 0 (-1) (fun _ => 0) (fun _ => 0) (fun _ => 0) (fun _ => 0) (fun _ => 0) (fun _ => 0) (fun _ => 0) (fun _ => 0) (fun _ => 0) (fun _ => 0) (fun _ => 0)) ∧ (∀ (post : SY → Prop) (P : Nat), (∃ n : Nat, wY_init_143 post (nI P) (nI Q) 0 (-1) 0 (-1) 0 (-1) 0 0 0 0 n 0 (fun _ => 0) (fun _ => 0) (fun _ => 0) (fun _ => 0) (fun _ => 0) (fun _ => 0) (fun _ => 0) (fun _ => 0) (fun _ => 0)) → wY_init_113 post k1 (nI P) 0 0 0 (-1) 0 (-1) 0 (-1) 0 0 0 0 (fun _ => 0) (fun _ => 0) (fun _ => 0) (fun _ => 0) (fun _ => 0) (fun _ => 0) (fun _ => 0) (fun _ => 0) (fun _ => 0)) := by
    by_cases h2 : 2 ≤ k1
    · by_cases h12 : k1 ≤ 12
      · obtain ⟨Q, a, b, rfl⟩ := in_cl (h := 12) (by decide) h2 h12
        exact ⟨Q, a, b, fun post P h => br_t h2 (br_t h12 h), fun post P h => br_t h2 (br_t h12 h)⟩
      · exact ⟨12, by decide, by decide, fun post P h => br_t h2 (br_f h12 h), fun post P h => br_t h2 (br_f h12 h)⟩
    · exact ⟨2, by decide, by decide, fun post P h => br_f h2 h, fun post P h => br_f h2 h⟩
  obtain ⟨Q, q2, q12, HX, HY⟩ := HQ
  by_cases h2 : 2 ≤ k0
  · by_cases h6 : k0 ≤ 6
    · obtain ⟨P, a, b, rfl⟩ := in_cl (h := 6) (by decide) h2 h6
      exact ⟨P, Q, a, b, q2, q12, fun post h => br_t h2 (br_t h6 (HX post P h)), fun post h => br_t h2 (br_t h6 (HY post P h))⟩
    · exact ⟨6, Q, by decide, by decide, q2, q12, fun post h => br_t h2 (br_f h6 (HX post 6 h)), fun post h => br_t h2 (br_f h6 (HY post 6 h))⟩
  · exact ⟨2, Q, by decide, by decide, q2, q12, fun post h => br_f h2 (HX post 2 h), fun post h => br_f h2 (HY post 2 h)⟩
theorem i_vc0 (k0 : Int32) (k1 : Int32) : wpX_init (fun u => wpY_init (fun v => i_Rel 2 u v) k0 k1) k0 k1 := by
  obtain ⟨P, Q, a, b, c, d, HX, HY⟩ := in_K k0 k1
  refine HX _ (HY _ ⟨25, yy_i143 (fun bC h => ?_) 24 0 rfl (fun _ => 0) ⟨fun p hp => absurd hp (by omega), fun _ _ => rfl⟩⟩)
  exact zz_in (in_F a b c d h)
/-! ===== offer, list, relate ===== -/
section
variable {P Q : Nat} {op wh pn nx cu ou dn rk sn sc rj : Int32} {aC aD aS aI aO aA aR aG aT aJ aK bC bB bV bD bR : Nat → Int32}
theorem yy_offA {post : Int32 → SY → Prop} {v1 v2 : Int32} (h1 : wY_offer_29 post v1 v2 1 (nI P) (nI Q) op wh nx cu sn sc ou rk pn dn bC bB bV bD aS aI aO aA bR) (h0 : ¬ v1 < 0 → ¬ nI P ≤ v1 → ¬ v2 < 1 → v2 ≤ 99 → wY_offer_29 post v1 v2 0 (nI P) (nI Q) op wh nx cu sn sc ou rk pn dn bC bB bV bD aS aI aO aA bR) : wpY_offer post (nI P, nI Q, op, wh, nx, cu, sn, sc, ou, rk, pn, dn, bC, bB, bV, bD, aS, aI, aO, aA, bR) v1 v2 :=
  br_c (fun _ => h1) (fun a => br_c (fun _ => h1) (fun b => br_c (fun _ => h1) (fun c => br_c (fun d => h0 a b c d) (fun _ => h1))))
theorem yy_lisA {post : Int32 → SY → Prop} {v1 v2 v3 v4 : Int32} (h1 : wY_list_40 post v1 v2 v3 v4 1 (nI P) (nI Q) op wh nx cu sn sc ou rk pn dn bC bB bV bD aS aI aO aA bR) (h0 : ¬ v1 < 0 → ¬ nI P ≤ v1 → ¬ v2 < 0 → ¬ nI Q ≤ v2 → ¬ v3 < 0 → v3 ≤ 99 → wY_list_40 post v1 v2 v3 v4 0 (nI P) (nI Q) op wh nx cu sn sc ou rk pn dn bC bB bV bD aS aI aO aA bR) : wpY_list post (nI P, nI Q, op, wh, nx, cu, sn, sc, ou, rk, pn, dn, bC, bB, bV, bD, aS, aI, aO, aA, bR) v1 v2 v3 v4 :=
  br_c (fun _ => h1) (fun a => br_c (fun _ => h1) (fun b => br_c (fun _ => h1) (fun c => br_c (fun _ => h1) (fun d => br_c (fun _ => h1) (fun e => br_c (fun f => h0 a b c d e f) (fun _ => h1))))))
theorem yy_relA {post : Int32 → SY → Prop} {v1 v2 v3 v4 : Int32} (h1 : wY_relate_45 post v1 v2 v3 v4 1 (nI P) (nI Q) op wh nx cu sn sc ou rk pn dn bC bB bV bD aS aI aO aA bR) (h0 : ¬ v1 < 1 → ¬ 2 < v1 → ¬ v2 < 0 → ¬ nI P ≤ v2 → ¬ v3 < 0 → ¬ nI P ≤ v3 → ¬ v2 = v3 → wY_relate_45 post v1 v2 v3 v4 0 (nI P) (nI Q) op wh nx cu sn sc ou rk pn dn bC bB bV bD aS aI aO aA bR) : wpY_relate post (nI P, nI Q, op, wh, nx, cu, sn, sc, ou, rk, pn, dn, bC, bB, bV, bD, aS, aI, aO, aA, bR) v1 v2 v3 v4 :=
  br_c (fun _ => h1) (fun a => br_c (fun _ => h1) (fun b => br_c (fun _ => h1) (fun c => br_c (fun _ => h1) (fun d => br_c (fun _ => h1) (fun e => br_c (fun _ => h1) (fun f => br_c (fun _ => h1) (fun g => h0 a b c d e f g)))))))
end
theorem rl_Az {aA : Nat → Int32} {lo hi : Nat} (h : rl_A aA) : rl_A (cp_f (fun _ => 0) aA lo hi) := by
  intro i hi'
  by_cases g : lo ≤ i ∧ i < hi
  · exact ⟨0, by omega, cp_in g.1 g.2⟩
  · rw [cp_out (by omega)]
    exact h i hi'
theorem i_vc_offer {k : Nat} {u : SX} {v : SY} (I : i_Rel k u v) (hk : k + 5 ≤ 2562) (v1 : Int32) (v2 : Int32) : wpX_offer (fun r u' => wpY_offer (fun r' v' => r' = r ∧ i_Rel (k + 5) u' v') v v1 v2) u v1 v2 := by
  refine zz_el (M := fun u v => wpX_offer (fun r u' => wpY_offer (fun r' v' => r' = r ∧ i_Rel (k + 5) u' v') v v1 v2) u v1 v2) I ?_
  intro P Q op wh pn nx cu ou dn rk sn sc aC aD aS aI aO aA aR aG aT aJ aK bC bB bV bD bR F
  have hS := F.1
  obtain ⟨hP2, hP6, hQ2, hQ12, hC, hD, hT, hA, hR⟩ := hS
  by_cases hd : dn = 0
  · have HB : (v1 < 0 ∨ nI P ≤ v1 ∨ v2 < 1 ∨ ¬ v2 ≤ 99) → wpY_offer (fun r' v' => r' = -9 ∧ i_Rel (k + 5) (nI P, nI Q, op, wh, pn, nx, cu, ou, dn, rk, sn, sc, aC, aD, aS, aI, aO, aA, aR, aG, aT, aJ, aK) v') (nI P, nI Q, op, wh, nx, cu, sn, sc, ou, rk, pn, dn, bC, bB, bV, bD, aS, aI, aO, aA, bR) v1 v2 := fun hb =>
      yy_offA (yy_refB hd (by decide) (br_f (by decide) (And.intro rfl (zz_in F)))) (fun a b c d => absurd hb (fun z => z.elim a (fun z => z.elim b (fun z => z.elim c (fun z => z d)))))
    rcases pk_ix v1 (n := P) (by omega) with h | h | ⟨j, hj, rfl⟩
    · exact br_t hd (xx_isPack0 (Or.inl h) (br_t rfl (HB (Or.inl h))))
    · exact br_t hd (xx_isPack0 (Or.inr h) (br_t rfl (HB (Or.inr (Or.inl h)))))
    · refine br_t hd (xx_isPack1 hj hP6 (br_f (by decide) (br_c (fun z => HB (Or.inr (Or.inr (Or.inl z)))) (fun h1 => br_c (fun h99 => ?_) (fun z => HB (Or.inr (Or.inr (Or.inr z))))))))
      have H1 : ∀ post : Int32 → SY → Prop, wY_offer_29 post (nI j) v2 0 (nI P) (nI Q) op wh nx cu sn sc ou rk pn dn bC bB bV bD aS aI aO aA bR → wpY_offer post (nI P, nI Q, op, wh, nx, cu, sn, sc, ou, rk, pn, dn, bC, bB, bV, bD, aS, aI, aO, aA, bR) (nI j) v2 := fun post H => br_f (nI_pos (by omega)) (br_f (nI_ge hj (by omega)) (br_f h1 (br_t h99 H)))
      have e : upd aO (nI j).toNatClampNeg v2 = upd aO j v2 := by rw [nI_clamp (n := j) (by omega)]
      refine br_c (fun ho => ⟨vp_in_nI (by omega) (by decide), nm_r e (Exists.intro 13 (xx_o51 (by omega) 12 0 rfl aA (H1 _ (yy_ref0 hd ho (br_t rfl ⟨vp_in_nI (by omega) (by decide), nm_r e (Exists.intro 13 (yy_o49 (by omega) 12 0 rfl aA (And.intro rfl (zz_in ?_))))⟩)))))⟩) (fun ho => H1 _ (yy_refO hd ho (br_f (by decide) (And.intro rfl (zz_in F)))))
      exact ⟨⟨hP2, hP6, hQ2, hQ12, hC, hD, hT, rl_Az hA, hR⟩, Or.inl (rl_wZ F.2 ho)⟩
  · have H : ∀ z : Int32, wY_offer_29 (fun r' v' => r' = -2 ∧ i_Rel (k + 5) (nI P, nI Q, op, wh, pn, nx, cu, ou, dn, rk, sn, sc, aC, aD, aS, aI, aO, aA, aR, aG, aT, aJ, aK) v') v1 v2 z (nI P) (nI Q) op wh nx cu sn sc ou rk pn dn bC bB bV bD aS aI aO aA bR := fun z => yy_refD hd (br_f (by decide) (And.intro rfl (zz_in F)))
    exact br_f hd (yy_offA (H 1) (fun _ _ _ _ => H 0))
theorem rl_Au {aA : Nat → Int32} {i e : Nat} (h : rl_A aA) (he : e < 200) : rl_A (upd aA i (nI e)) := by
  intro t ht
  by_cases g : t = i
  · subst g
    exact ⟨e, he, pk_us⟩
  · rw [pk_un g]
    exact h t ht
theorem i_vc_list {k : Nat} {u : SX} {v : SY} (I : i_Rel k u v) (hk : k + 5 ≤ 2562) (v1 : Int32) (v2 : Int32) (v3 : Int32) (v4 : Int32) : wpX_list (fun r u' => wpY_list (fun r' v' => r' = r ∧ i_Rel (k + 5) u' v') v v1 v2 v3 (lw_bz v4)) u v1 v2 v3 (lw_bz v4) := by
  refine zz_el (M := fun u v => wpX_list (fun r u' => wpY_list (fun r' v' => r' = r ∧ i_Rel (k + 5) u' v') v v1 v2 v3 (lw_bz v4)) u v1 v2 v3 (lw_bz v4)) I ?_
  intro P Q op wh pn nx cu ou dn rk sn sc aC aD aS aI aO aA aR aG aT aJ aK bC bB bV bD bR F
  have hS := F.1
  obtain ⟨hP2, hP6, hQ2, hQ12, hC, hD, hT, hA, hR⟩ := hS
  generalize lw_bz v4 = t
  by_cases hd : dn = 0
  · have HB : (v1 < 0 ∨ nI P ≤ v1 ∨ v2 < 0 ∨ nI Q ≤ v2 ∨ v3 < 0 ∨ ¬ v3 ≤ 99) → wpY_list (fun r' v' => r' = -9 ∧ i_Rel (k + 5) (nI P, nI Q, op, wh, pn, nx, cu, ou, dn, rk, sn, sc, aC, aD, aS, aI, aO, aA, aR, aG, aT, aJ, aK) v') (nI P, nI Q, op, wh, nx, cu, sn, sc, ou, rk, pn, dn, bC, bB, bV, bD, aS, aI, aO, aA, bR) v1 v2 v3 t := fun hb =>
      yy_lisA (yy_refB hd (by decide) (br_f (by decide) (And.intro rfl (zz_in F)))) (fun a b c d e f => absurd hb (fun z => z.elim a (fun z => z.elim b (fun z => z.elim c (fun z => z.elim d (fun z => z.elim e (fun z => z f)))))))
    rcases pk_ix v1 (n := P) (by omega) with h | h | ⟨j, hj, rfl⟩
    · exact br_t hd (xx_isPack0 (Or.inl h) (br_t rfl (HB (Or.inl h))))
    · exact br_t hd (xx_isPack0 (Or.inr h) (br_t rfl (HB (Or.inr (Or.inl h)))))
    · rcases pk_ix v2 (n := Q) (by omega) with h | h | ⟨q, hq, rfl⟩
      · exact br_t hd (xx_isPack1 hj hP6 (br_f (by decide) (xx_isPath0 (Or.inl h) (br_t rfl (HB (Or.inr (Or.inr (Or.inl h))))))))
      · exact br_t hd (xx_isPack1 hj hP6 (br_f (by decide) (xx_isPath0 (Or.inr h) (br_t rfl (HB (Or.inr (Or.inr (Or.inr (Or.inl h)))))))))
      · refine br_t hd (xx_isPack1 hj hP6 (br_f (by decide) (xx_isPath1 hq hQ12 (br_f (by decide) (br_c (fun z => HB (Or.inr (Or.inr (Or.inr (Or.inr (Or.inl z)))))) (fun h0 => br_c (fun h99 => ?_) (fun z => HB (Or.inr (Or.inr (Or.inr (Or.inr (Or.inr z)))))))))))) 
        have H1 : ∀ post : Int32 → SY → Prop, wY_list_40 post (nI j) (nI q) v3 t 0 (nI P) (nI Q) op wh nx cu sn sc ou rk pn dn bC bB bV bD aS aI aO aA bR → wpY_list post (nI P, nI Q, op, wh, nx, cu, sn, sc, ou, rk, pn, dn, bC, bB, bV, bD, aS, aI, aO, aA, bR) (nI j) (nI q) v3 t := fun post H => br_f (nI_pos (by omega)) (br_f (nI_ge hj (by omega)) (br_f (nI_pos (by omega)) (br_f (nI_ge hq (by omega)) (br_f h0 (br_t h99 H)))))
        obtain ⟨e, he, rfl⟩ := nI_of2 (M := 99) (n := 99) (by decide) h0 h99
        have F' : ∀ e : Nat, e < 200 → op = 0 → rl_F P Q op wh nx cu rk sn sc aC aD aS (upd aA (12 * j + q) (nI e)) aR aG aT aJ aK bC bB bV bD bR := fun e he ho => ⟨⟨hP2, hP6, hQ2, hQ12, hC, hD, hT, rl_Au hA he, hR⟩, Or.inl (rl_wZ F.2 ho)⟩
        have hv : vp_in (nI j) 6 := vp_in_nI (by omega) (by decide)
        have hw : vp_in (nI (12 * j + q)) 72 := vp_in_nI (by omega) (by decide)
        have cj : (nI j).toNatClampNeg = j := nI_clamp (by omega)
        have ci : (nI (12 * j + q)).toNatClampNeg = 12 * j + q := nI_clamp (by omega)
        refine br_c (fun ho => ⟨hv, ?_⟩) (fun ho => H1 _ (yy_refO hd ho (br_f (by decide) (And.intro rfl (zz_in F)))))
        rw [cj, ix_12x, ci]
        have H2 : ∀ post : Int32 → SY → Prop, (aO j = 0 → post (-4) (nI P, nI Q, op, wh, nx, cu, sn, sc, ou, rk, pn, dn, bC, bB, bV, bD, aS, aI, aO, aA, bR)) → (¬ aO j = 0 → nI e = 0 → post 0 (nI P, nI Q, op, wh, nx, cu, sn, sc, ou, rk, pn, dn, bC, bB, bV, bD, aS, aI, aO, upd aA (12 * j + q) 0, bR)) → (¬ aO j = 0 → ¬ nI e = 0 → t = 0 → post 0 (nI P, nI Q, op, wh, nx, cu, sn, sc, ou, rk, pn, dn, bC, bB, bV, bD, aS, aI, aO, upd aA (12 * j + q) (nI e), bR)) → (¬ aO j = 0 → ¬ nI e = 0 → ¬ t = 0 → post 0 (nI P, nI Q, op, wh, nx, cu, sn, sc, ou, rk, pn, dn, bC, bB, bV, bD, aS, aI, aO, upd aA (12 * j + q) (nI e + 100), bR)) → wY_list_40 post (nI j) (nI q) (nI e) t 0 (nI P) (nI Q) op wh nx cu sn sc ou rk pn dn bC bB bV bD aS aI aO aA bR := by
          intro post g1 g2 g3 g4
          refine yy_ref0 hd ho (br_t rfl ?_)
          rw [cj, ix_12y, ci]
          exact ⟨hv, br_c g1 (fun a => br_c (fun b => ⟨hw, nm_e (g2 a b)⟩) (fun b => br_c (fun c => ⟨hw, nm_e (g3 a b c)⟩) (fun c => ⟨hw, nm_e (g4 a b c)⟩)))⟩
        refine br_c (fun a => H1 _ (H2 _ (fun _ => And.intro rfl (zz_in F)) (fun z => absurd a z) (fun z => absurd a z) (fun z => absurd a z))) (fun a => br_c (fun b => ⟨hw, nm_e (H1 _ (H2 _ (fun z => absurd z a) (fun _ _ => And.intro rfl ?_) (fun _ z => absurd b z) (fun _ z => absurd b z)))⟩) (fun b => br_c (fun c => ⟨hw, nm_e (H1 _ (H2 _ (fun z => absurd z a) (fun _ z => absurd z b) (fun _ _ _ => And.intro rfl (zz_in (F' e (by omega) ho))) (fun _ _ z => absurd c z)))⟩) (fun c => ⟨hw, nm_e (H1 _ (H2 _ (fun z => absurd z a) (fun _ z => absurd z b) (fun _ _ z => absurd z c) (fun _ _ _ => And.intro rfl ?_)))⟩)))
        · rw [b]
          exact zz_in (F' 0 (by omega) ho)
        · have e100 : nI e + 100 = nI (e + 100) := nI_add e 100
          rw [e100]
          exact zz_in (F' (e + 100) (by omega) ho)
  · have H : ∀ z : Int32, wY_list_40 (fun r' v' => r' = -2 ∧ i_Rel (k + 5) (nI P, nI Q, op, wh, pn, nx, cu, ou, dn, rk, sn, sc, aC, aD, aS, aI, aO, aA, aR, aG, aT, aJ, aK) v') v1 v2 v3 t z (nI P) (nI Q) op wh nx cu sn sc ou rk pn dn bC bB bV bD aS aI aO aA bR := fun z => yy_refD hd (br_f (by decide) (And.intro rfl (zz_in F)))
    exact br_f hd (yy_lisA (H 1) (fun _ _ _ _ _ _ => H 0))
theorem rr_set {aR bR : Nat → Int32} {i : Nat} {x y z : Int32} (h : rl_R aR bR) (hi : i < 36) (hx : rl_RR x y z) : ∀ bR' : Nat → Int32, bR' i = y → bR' (36 + i) = z → (∀ t, t ≠ i → t ≠ 36 + i → bR' t = bR t) → rl_R (upd aR i x) bR' := by
  intro b' h1 h2 h3 t ht
  by_cases g : t = i
  · subst g
    rw [pk_us, h1, h2]
    exact hx
  · rw [pk_un g, h3 t g (by omega), h3 (36 + t) (by omega) (by omega)]
    exact h t ht
theorem ix_r1 (j i : Nat) : 36 * ((1 : Int32) - 1) + 6 * nI j + nI i = nI (6 * j + i) := by
  rw [show (36 : Int32) * (1 - 1) = 0 from by decide, Int32.zero_add, ix_6y]
theorem ix_r2 (j i : Nat) : 36 * ((2 : Int32) - 1) + 6 * nI j + nI i = nI (36 + (6 * j + i)) := by
  rw [show (36 : Int32) * (2 - 1) = 36 from by decide, ix_36]
theorem i_vc_relate {k : Nat} {u : SX} {v : SY} (I : i_Rel k u v) (hk : k + 5 ≤ 2562) (v1 : Int32) (v2 : Int32) (v3 : Int32) (v4 : Int32) : wpX_relate (fun r u' => wpY_relate (fun r' v' => r' = r ∧ i_Rel (k + 5) u' v') v v1 v2 v3 (lw_bz v4)) u v1 v2 v3 (lw_bz v4) := by
  refine zz_el (M := fun u v => wpX_relate (fun r u' => wpY_relate (fun r' v' => r' = r ∧ i_Rel (k + 5) u' v') v v1 v2 v3 (lw_bz v4)) u v1 v2 v3 (lw_bz v4)) I ?_
  intro P Q op wh pn nx cu ou dn rk sn sc aC aD aS aI aO aA aR aG aT aJ aK bC bB bV bD bR F
  have hS := F.1
  obtain ⟨hP2, hP6, hQ2, hQ12, hC, hD, hT, hA, hR⟩ := hS
  have h01 := lw_bz_01 v4
  generalize lw_bz v4 = t at *
  by_cases hd : dn = 0
  · have HB : (v1 < 1 ∨ 2 < v1 ∨ v2 < 0 ∨ nI P ≤ v2 ∨ v3 < 0 ∨ nI P ≤ v3 ∨ v2 = v3) → wpY_relate (fun r' v' => r' = -9 ∧ i_Rel (k + 5) (nI P, nI Q, op, wh, pn, nx, cu, ou, dn, rk, sn, sc, aC, aD, aS, aI, aO, aA, aR, aG, aT, aJ, aK) v') (nI P, nI Q, op, wh, nx, cu, sn, sc, ou, rk, pn, dn, bC, bB, bV, bD, aS, aI, aO, aA, bR) v1 v2 v3 t := fun hb =>
      yy_relA (yy_refB hd (by decide) (br_f (by decide) (And.intro rfl (zz_in F)))) (fun a b c d e f g => absurd hb (fun z => z.elim a (fun z => z.elim b (fun z => z.elim c (fun z => z.elim d (fun z => z.elim e (fun z => z.elim f g)))))))
    by_cases hv1 : v1 = 1 ∨ v1 = 2
    · rcases pk_ix v2 (n := P) (by omega) with h | h | ⟨j, hj, rfl⟩
      · exact br_t hd (xx_isRel1 hv1 (br_f (by decide) (xx_isPack0 (Or.inl h) (br_t rfl (HB (Or.inr (Or.inr (Or.inl h))))))))
      · exact br_t hd (xx_isRel1 hv1 (br_f (by decide) (xx_isPack0 (Or.inr h) (br_t rfl (HB (Or.inr (Or.inr (Or.inr (Or.inl h)))))))))
      · rcases pk_ix v3 (n := P) (by omega) with h | h | ⟨i, hi, rfl⟩
        · exact br_t hd (xx_isRel1 hv1 (br_f (by decide) (xx_isPack1 hj hP6 (br_f (by decide) (xx_isPack0 (Or.inl h) (br_t rfl (HB (Or.inr (Or.inr (Or.inr (Or.inr (Or.inl h)))))))))))) 
        · exact br_t hd (xx_isRel1 hv1 (br_f (by decide) (xx_isPack1 hj hP6 (br_f (by decide) (xx_isPack0 (Or.inr h) (br_t rfl (HB (Or.inr (Or.inr (Or.inr (Or.inr (Or.inr (Or.inl h))))))))))))) 
        · refine br_t hd (xx_isRel1 hv1 (br_f (by decide) (xx_isPack1 hj hP6 (br_f (by decide) (xx_isPack1 hi hP6 (br_f (by decide) (br_c (fun z => HB (Or.inr (Or.inr (Or.inr (Or.inr (Or.inr (Or.inr z))))))) (fun hne => ?_))))))))
          have a1 : ¬ v1 < 1 := by rcases hv1 with rfl | rfl <;> decide
          have a2 : ¬ 2 < v1 := by rcases hv1 with rfl | rfl <;> decide
          have H1 : ∀ post : Int32 → SY → Prop, wY_relate_45 post v1 (nI j) (nI i) t 0 (nI P) (nI Q) op wh nx cu sn sc ou rk pn dn bC bB bV bD aS aI aO aA bR → wpY_relate post (nI P, nI Q, op, wh, nx, cu, sn, sc, ou, rk, pn, dn, bC, bB, bV, bD, aS, aI, aO, aA, bR) v1 (nI j) (nI i) t := fun post H => br_f a1 (br_f a2 (br_f (nI_pos (by omega)) (br_f (nI_ge hj (by omega)) (br_f (nI_pos (by omega)) (br_f (nI_ge hi (by omega)) (br_f hne H))))))
          refine br_c (fun ho => ?_) (fun ho => H1 _ (yy_refO hd ho (br_f (by decide) (And.intro rfl (zz_in F)))))
          have hv : vp_in (nI (6 * j + i)) 36 := vp_in_nI (by omega) (by decide)
          have ci : (nI (6 * j + i)).toNatClampNeg = 6 * j + i := nI_clamp (by omega)
          have F' : ∀ (x : Int32) (b' : Nat → Int32), rl_R (upd aR (6 * j + i) x) b' → rl_F P Q op wh nx cu rk sn sc aC aD aS aA (upd aR (6 * j + i) x) aG aT aJ aK bC bB bV bD b' := fun x b' h => ⟨⟨hP2, hP6, hQ2, hQ12, hC, hD, hT, hA, h⟩, Or.inl (rl_wZ F.2 ho)⟩
          have hrr := hR (6 * j + i) (by omega)
          refine nm_r (e' := nI (6 * j + i)) (ix_6x j i) ?_
          rw [ci]
          have en : vp_nar .boolean t = t := by rcases h01 with rfl | rfl <;> rfl
          -- Y's store
          have HY : ∀ (post : Int32 → SY → Prop), (∀ b' : Nat → Int32, (v1 = 1 → b' (6 * j + i) = t ∧ b' (36 + (6 * j + i)) = bR (36 + (6 * j + i))) → (v1 = 2 → b' (6 * j + i) = bR (6 * j + i) ∧ b' (36 + (6 * j + i)) = t) → (∀ s, s ≠ 6 * j + i → s ≠ 36 + (6 * j + i) → b' s = bR s) → post 0 (nI P, nI Q, op, wh, nx, cu, sn, sc, ou, rk, pn, dn, bC, bB, bV, bD, aS, aI, aO, aA, b')) → wY_relate_45 post v1 (nI j) (nI i) t 0 (nI P) (nI Q) op wh nx cu sn sc ou rk pn dn bC bB bV bD aS aI aO aA bR := by
            intro post H
            refine yy_ref0 hd ho (br_t rfl ?_)
            rcases hv1 with rfl | rfl
            · rw [ix_r1, ci, en]
              refine ⟨vp_in_nI (by omega) (by decide), nm_e (H _ (fun _ => ⟨pk_us, pk_un (by omega)⟩) (fun z => absurd z (by decide)) (fun s h1 _ => pk_un h1))⟩
            · rw [ix_r2, nI_clamp (n := 36 + (6 * j + i)) (by omega), en]
              refine ⟨vp_in_nI (by omega) (by decide), nm_e (H _ (fun z => absurd z (by decide)) (fun _ => ⟨pk_un (by omega), pk_us⟩) (fun s _ h2 => pk_un h2))⟩
          refine br_c (fun ht => ⟨hv, hv, nm_e (H1 _ (HY _ (fun b' g1 g2 g3 => And.intro rfl (zz_in (F' _ b' ?_)))))⟩) (fun ht => ⟨hv, hv, nm_e (H1 _ (HY _ (fun b' g1 g2 g3 => And.intro rfl (zz_in (F' _ b' ?_)))))⟩)
          · rcases hv1 with rfl | rfl
            · obtain ⟨q1, q2⟩ := g1 rfl
              refine rr_set hR (by omega) ?_ b' rfl rfl g3
              rw [q1, q2, ht]
              rcases hrr with ⟨r1, _, r3⟩ | ⟨r1, _, r3⟩ | ⟨r1, _, r3⟩ | ⟨r1, _, r3⟩ <;> rw [r1, r3] <;> unfold rl_RR <;> decide
            · obtain ⟨q1, q2⟩ := g2 rfl
              refine rr_set hR (by omega) ?_ b' rfl rfl g3
              rw [q1, q2, ht]
              rcases hrr with ⟨r1, r2, _⟩ | ⟨r1, r2, _⟩ | ⟨r1, r2, _⟩ | ⟨r1, r2, _⟩ <;> rw [r1, r2] <;> unfold rl_RR <;> decide
          · have ht1 : t = 1 := h01.resolve_left ht
            rcases hv1 with rfl | rfl
            · obtain ⟨q1, q2⟩ := g1 rfl
              refine rr_set hR (by omega) ?_ b' rfl rfl g3
              rw [q1, q2, ht1]
              rcases hrr with ⟨r1, _, r3⟩ | ⟨r1, _, r3⟩ | ⟨r1, _, r3⟩ | ⟨r1, _, r3⟩ <;> rw [r1, r3] <;> unfold rl_RR <;> decide
            · obtain ⟨q1, q2⟩ := g2 rfl
              refine rr_set hR (by omega) ?_ b' rfl rfl g3
              rw [q1, q2, ht1]
              rcases hrr with ⟨r1, r2, _⟩ | ⟨r1, r2, _⟩ | ⟨r1, r2, _⟩ | ⟨r1, r2, _⟩ <;> rw [r1, r2] <;> unfold rl_RR <;> decide
    · have n1 : ¬ v1 = 1 := fun z => hv1 (Or.inl z)
      have n2 : ¬ v1 = 2 := fun z => hv1 (Or.inr z)
      refine br_t hd (xx_isRel0 n1 n2 (br_t rfl (HB ?_)))
      by_cases a1 : v1 < 1
      · exact Or.inl a1
      · refine Or.inr (Or.inl ?_)
        have b1 : ¬ v1.toInt = (1 : Int32).toInt := fun z => n1 (Int32.toInt_inj.mp z)
        have b2 : ¬ v1.toInt = (2 : Int32).toInt := fun z => n2 (Int32.toInt_inj.mp z)
        rw [Int32.lt_iff_toInt_lt] at a1 ⊢
        rw [show (1 : Int32).toInt = 1 from by decide] at a1 b1
        rw [show (2 : Int32).toInt = 2 from by decide] at b2 ⊢
        omega
  · have H : ∀ z : Int32, wY_relate_45 (fun r' v' => r' = -2 ∧ i_Rel (k + 5) (nI P, nI Q, op, wh, pn, nx, cu, ou, dn, rk, sn, sc, aC, aD, aS, aI, aO, aA, aR, aG, aT, aJ, aK) v') v1 v2 v3 t z (nI P) (nI Q) op wh nx cu sn sc ou rk pn dn bC bB bV bD aS aI aO aA bR := fun z => yy_refD hd (br_f (by decide) (And.intro rfl (zz_in F)))
    exact br_f hd (yy_relA (H 1) (fun _ _ _ _ _ _ _ => H 0))
end
section
/-! ===== divert, edit ===== -/
section
variable {P Q : Nat} {op wh pn nx cu ou dn rk sn sc rj : Int32} {aC aD aS aI aO aA aR aG aT aJ aK bC bB bV bD bR : Nat → Int32}
theorem yy_divA {post : Int32 → SY → Prop} {v1 v2 : Int32} (h1 : wY_divert_31 post v1 v2 1 (nI P) (nI Q) op wh nx cu sn sc ou rk pn dn bC bB bV bD aS aI aO aA bR) (h0 : ¬ v1 < 0 → ¬ nI Q ≤ v1 → ¬ v2 < -1 → v2 < nI P → wY_divert_31 post v1 v2 0 (nI P) (nI Q) op wh nx cu sn sc ou rk pn dn bC bB bV bD aS aI aO aA bR) : wpY_divert post (nI P, nI Q, op, wh, nx, cu, sn, sc, ou, rk, pn, dn, bC, bB, bV, bD, aS, aI, aO, aA, bR) v1 v2 :=
  br_c (fun _ => h1) (fun a => br_c (fun _ => h1) (fun b => br_c (fun _ => h1) (fun c => br_c (fun d => h0 a b c d) (fun _ => h1))))
theorem yy_ediA {post : Int32 → SY → Prop} {v1 v2 : Int32} (h1 : wY_edit_30 post v1 v2 1 (nI P) (nI Q) op wh nx cu sn sc ou rk pn dn bC bB bV bD aS aI aO aA bR) (h0 : ¬ v1 < 0 → ¬ 2 * nI Q ≤ v1 → ¬ v2 < 0 → v2 ≤ 99 → wY_edit_30 post v1 v2 0 (nI P) (nI Q) op wh nx cu sn sc ou rk pn dn bC bB bV bD aS aI aO aA bR) : wpY_edit post (nI P, nI Q, op, wh, nx, cu, sn, sc, ou, rk, pn, dn, bC, bB, bV, bD, aS, aI, aO, aA, bR) v1 v2 :=
  br_c (fun _ => h1) (fun a => br_c (fun _ => h1) (fun b => br_c (fun _ => h1) (fun c => br_c (fun d => h0 a b c d) (fun _ => h1))))
theorem yy_d64 {post : Int32 → SY → Prop} {q : Nat} {x2 z0 z1 : Int32} (hq : q < Q) (hQ : Q ≤ 12) (hE : cl_E aC bC) (hne : ¬ z1 = z0)
    (h0 : cl_cn (aC (Q + q)) = 0 → cl_ow (aC (Q + q)) = -1 → wY_divert_113 post (nI q) x2 (nI (5 * q)) (nI (5 * (Q + q))) 0 (nI P) (nI Q) op wh nx cu sn sc ou rk pn dn bC bB bV bD aS aI aO aA bR)
    (h1 : (¬ cl_cn (aC (Q + q)) = 0 ∨ ¬ cl_ow (aC (Q + q)) = -1) → wY_divert_113 post (nI q) x2 (nI (5 * q)) (nI (5 * (Q + q))) 1 (nI P) (nI Q) op wh nx cu sn sc ou rk pn dn bC bB bV bD aS aI aO aA bR) :
    wY_divert_64 post (nI q) x2 z0 z1 (nI P) (nI Q) op wh nx cu sn sc ou rk pn dn bC bB bV bD aS aI aO aA bR := by
  obtain ⟨e0, e1, _, _, _, _⟩ := hE (Q + q) (by omega)
  have ha : Q + q < 24 := by omega
  have c1 : (nI (5 * (Q + q)) + 1).toNatClampNeg = 5 * (Q + q) + 1 := ix_c ha 1 (by decide)
  refine br_f hne ?_
  rw [ix_5, nI_add, ix_5]
  refine nm_e (nm_e ?_)
  rw [ix_c0 ha, c1, e0, e1]
  exact ⟨ix_v0 ha, br_c (fun a => ⟨ix_v ha 1 (by decide), br_c (fun b => h0 a b) (fun b => h1 (Or.inr b))⟩) (fun a => h1 (Or.inl a))⟩
theorem yy_d151 {post : Int32 → SY → Prop} {q : Nat} {x2 x6 : Int32} (hq : q < Q) (hQ : Q ≤ 12) (hE : cl_E aC bC)
    (h0 : (x2 < 0 ∨ cl_ow (aC q) = x2) → wY_divert_183 post x2 (nI (5 * q)) (nI (5 * (Q + q))) x6 (nI P) (nI Q) op wh nx cu sn sc ou rk pn dn bC bB bV (upd bD q x2) aS aI aO aA bR)
    (h1 : ¬ x2 < 0 → ¬ cl_ow (aC q) = x2 → ∀ b' : Nat → Int32, b' = u5_f (u5_f bC (Q + q) (bC (5 * q)) (bC (5 * q + 1)) (bC (5 * q + 2)) (bC (5 * q + 3)) (bC (5 * q + 4))) q 0 (-1) 0 0 0 → wY_divert_183 post x2 (nI (5 * q)) (nI (5 * (Q + q))) x6 (nI P) (nI Q) op wh nx cu sn sc ou rk pn dn b' bB bV (upd bD q x2) aS aI aO aA bR) :
    wY_divert_151 post (nI q) x2 (nI (5 * q)) (nI (5 * (Q + q))) x6 (nI P) (nI Q) op wh nx cu sn sc ou rk pn dn bC bB bV bD aS aI aO aA bR := by
  obtain ⟨_, e1, _, _, _, _⟩ := hE q (by omega)
  have hq24 : q < 24 := by omega
  have c1 : (nI (5 * q) + 1).toNatClampNeg = 5 * q + 1 := ix_c hq24 1 (by decide)
  unfold wY_divert_151
  rw [nI_clamp (n := q) (by omega), c1, e1]
  exact ⟨vp_in_nI (by omega) (by decide), nm_e (br_c (fun a => h0 (Or.inl a)) (fun a => ⟨ix_v hq24 1 (by decide), br_c (fun b => h0 (Or.inr b)) (fun b => yy_move hq24 (by omega) (by omega) (h1 a b _ rfl))⟩))⟩
end
theorem cl_owN {v : Int32} (h : ¬ cl_ow v = 6) : cl_ow v < 0 ↔ cl_ow v = -1 := by
  rcases cl_ow6 h with e | ⟨j, hj, e⟩
  · rw [e]; decide
  · rw [e]
    exact ⟨fun z => absurd z (nI_pos (by omega)), fun z => absurd z (ix_m1 j (by omega))⟩
/-- a whole cell moved -/
theorem cl_Emv {a b : Nat → Int32} {p q : Nat} (h : cl_E a b) (hp : p < 24) : cl_E (upd (upd a q (a p)) p 0) (u5_f (u5_f b q (b (5 * p)) (b (5 * p + 1)) (b (5 * p + 2)) (b (5 * p + 3)) (b (5 * p + 4))) p 0 (-1) 0 0 0) := by
  obtain ⟨e0, e1, e2, e3, e4, e5⟩ := h p hp
  obtain ⟨z0, z1, z2, z3, z4⟩ := cl_0F
  exact u5_E (u5_E h e0 e1 e2 e3 e4 e5) z0.symm z1.symm z2.symm z3.symm z4.symm (by rw [z1]; decide)
theorem rl_Du {aD bD : Nat → Int32} {q d : Nat} {x y : Int32} (h : rl_D aD bD) (hd : d ≤ 6) (hx : x = nI d) (hy : y = nI d - 1) : rl_D (upd aD q x) (upd bD q y) := by
  intro t ht
  by_cases e : t = q
  · subst e
    rw [pk_us, pk_us]
    exact ⟨d, hd, hx, hy⟩
  · rw [pk_un e, pk_un e]
    exact h t ht
theorem i_vc_divert {k : Nat} {u : SX} {v : SY} (I : i_Rel k u v) (hk : k + 5 ≤ 2562) (v1 : Int32) (v2 : Int32) : wpX_divert (fun r u' => wpY_divert (fun r' v' => r' = r ∧ i_Rel (k + 5) u' v') v v1 v2) u v1 v2 := by
  refine zz_el (M := fun u v => wpX_divert (fun r u' => wpY_divert (fun r' v' => r' = r ∧ i_Rel (k + 5) u' v') v v1 v2) u v1 v2) I ?_
  intro P Q op wh pn nx cu ou dn rk sn sc aC aD aS aI aO aA aR aG aT aJ aK bC bB bV bD bR F
  have hS := F.1
  obtain ⟨hP2, hP6, hQ2, hQ12, hC, hD, hT, hA, hR⟩ := hS
  by_cases hd : dn = 0
  · have HB : (v1 < 0 ∨ nI Q ≤ v1 ∨ v2 < -1 ∨ ¬ v2 < nI P) → wpY_divert (fun r' v' => r' = -9 ∧ i_Rel (k + 5) (nI P, nI Q, op, wh, pn, nx, cu, ou, dn, rk, sn, sc, aC, aD, aS, aI, aO, aA, aR, aG, aT, aJ, aK) v') (nI P, nI Q, op, wh, nx, cu, sn, sc, ou, rk, pn, dn, bC, bB, bV, bD, aS, aI, aO, aA, bR) v1 v2 := fun hb =>
      yy_divA (yy_refB hd (by decide) (br_f (by decide) (And.intro rfl (zz_in F)))) (fun a b c d => absurd hb (fun z => z.elim a (fun z => z.elim b (fun z => z.elim c (fun z => z d)))))
    rcases pk_ix v1 (n := Q) (by omega) with h | h | ⟨q, hq, rfl⟩
    · exact br_t hd (xx_isPath0 (Or.inl h) (br_t rfl (HB (Or.inl h))))
    · exact br_t hd (xx_isPath0 (Or.inr h) (br_t rfl (HB (Or.inr (Or.inl h)))))
    · refine br_t hd (xx_isPath1 hq hQ12 (br_f (by decide) (br_c (fun z => HB (Or.inr (Or.inr (Or.inl z)))) (fun h1 => br_c (fun hlt => ?_) (fun z => HB (Or.inr (Or.inr (Or.inr z))))))))
      have H1 : ∀ post : Int32 → SY → Prop, wY_divert_31 post (nI q) v2 0 (nI P) (nI Q) op wh nx cu sn sc ou rk pn dn bC bB bV bD aS aI aO aA bR → wpY_divert post (nI P, nI Q, op, wh, nx, cu, sn, sc, ou, rk, pn, dn, bC, bB, bV, bD, aS, aI, aO, aA, bR) (nI q) v2 := fun post H => br_f (nI_pos (by omega)) (br_f (nI_ge hq (by omega)) (br_f h1 (br_t hlt H)))
      refine br_c (fun ho => ?_) (fun ho => H1 _ (yy_refO hd ho (br_f (by decide) (And.intro rfl (zz_in F)))))
      have hz := rl_wZ F.2 ho
      have cq : (nI q).toNatClampNeg = q := nI_clamp (by omega)
      have ca : (nI (Q + q)).toNatClampNeg = Q + q := nI_clamp (by omega)
      have vq12 : vp_in (nI q) 12 := vp_in_nI (by omega) (by decide)
      have vq : vp_in (nI q) 24 := vp_in_nI (by omega) (by decide)
      have va' : vp_in (nI (Q + q)) 24 := vp_in_nI (by omega) (by decide)
      obtain ⟨d, hd6, ea, eb⟩ := hD q (by omega)
      by_cases hn : v2 < 0
      · -- no diverter from here on
        have e2 : v2 = -1 := by
          have a := Int32.lt_iff_toInt_lt.mp hn
          have b : ¬ v2.toInt < (-1 : Int32).toInt := fun z => h1 (Int32.lt_iff_toInt_lt.mpr z)
          rw [show (0 : Int32).toInt = 0 from by decide] at a
          rw [show (-1 : Int32).toInt = -1 from by decide] at b
          exact Int32.toInt_inj.mp (by rw [show (-1 : Int32).toInt = -1 from by decide]; omega)
        subst e2
        refine br_t (by decide) ?_
        rcases Nat.eq_zero_or_pos d with rfl | hpos
        · -- there is none
          have hb0 : bD q < 0 := by rw [eb]; decide
          unfold wpX_dropDiverter
          dsimp only
          rw [cq, ea]
          refine ⟨vq12, br_t rfl (H1 _ (yy_ref0 hd ho (br_t rfl (br_t (by decide) ?_))))⟩
          unfold wY_divert_50
          rw [cq]
          exact ⟨vq12, br_t hb0 (br_t rfl (And.intro rfl (zz_in F)))⟩
        · have ha0 : ¬ aD q = 0 := by rw [ea]; exact nI_ne0 hpos (by omega)
          have hb0 : ¬ bD q < 0 := by
            rw [eb]
            obtain ⟨i, rfl⟩ : ∃ i, d = i + 1 := ⟨d - 1, by omega⟩
            rw [nI_pred]
            exact nI_pos (by omega)
          have o5a := cl_owN (hC (Q + q) (by omega)).2.2.2.2.2
          have o5m := cl_owN (hC q (by omega)).2.2.2.2.2
          have em := (hC q (by omega)).1
          have em1 := (hC q (by omega)).2.1
          have hq24 : q < 24 := by omega
          have c1 : (nI (5 * q) + 1).toNatClampNeg = 5 * q + 1 := ix_c hq24 1 (by decide)
          have hD' : rl_D (upd aD q 0) (upd bD q (-1)) := rl_Du hD (d := 0) (by omega) rfl (by decide)
          have F0 : rl_F P Q op wh nx cu rk sn sc aC (upd aD q 0) aS aA aR aG aT aJ aK bC bB bV (upd bD q (-1)) bR := ⟨⟨hP2, hP6, hQ2, hQ12, hC, hD', hT, hA, hR⟩, Or.inl hz⟩
          have F1 : rl_F P Q op wh nx cu rk sn sc (upd (upd aC q (aC (Q + q))) (Q + q) 0) (upd aD q 0) aS aA aR aG aT aJ aK (u5_f (u5_f bC q (bC (5 * (Q + q))) (bC (5 * (Q + q) + 1)) (bC (5 * (Q + q) + 2)) (bC (5 * (Q + q) + 3)) (bC (5 * (Q + q) + 4))) (Q + q) 0 (-1) 0 0 0) bB bV (upd bD q (-1)) bR := ⟨⟨hP2, hP6, hQ2, hQ12, cl_Emv hC (by omega), hD', hT, hA, hR⟩, Or.inl hz⟩
          -- Y down to row 113
          have HY : ∀ post : Int32 → SY → Prop, (cl_cn (aC (Q + q)) = 0 → cl_ow (aC (Q + q)) = -1 → wY_divert_113 post (nI q) (-1) (nI (5 * q)) (nI (5 * (Q + q))) 0 (nI P) (nI Q) op wh nx cu sn sc ou rk pn dn bC bB bV bD aS aI aO aA bR) → ((¬ cl_cn (aC (Q + q)) = 0 ∨ ¬ cl_ow (aC (Q + q)) = -1) → wY_divert_113 post (nI q) (-1) (nI (5 * q)) (nI (5 * (Q + q))) 1 (nI P) (nI Q) op wh nx cu sn sc ou rk pn dn bC bB bV bD aS aI aO aA bR) → wpY_divert post (nI P, nI Q, op, wh, nx, cu, sn, sc, ou, rk, pn, dn, bC, bB, bV, bD, aS, aI, aO, aA, bR) (nI q) (-1) := by
            intro post g0 g1
            refine H1 _ (yy_ref0 hd ho (br_t rfl (br_t (by decide) ?_)))
            unfold wY_divert_50
            rw [cq]
            exact ⟨vq12, br_f hb0 (yy_d64 hq hQ12 hC (by decide) g0 g1)⟩
          have X50 : ∀ (post : Int32 → SX → Prop) (z : Int32), (z = 0 → post 0 (nI P, nI Q, op, wh, pn, nx, cu, ou, dn, rk, sn, sc, aC, upd aD q 0, aS, aI, aO, aA, aR, aG, aT, aJ, aK)) → (¬ z = 0 → post 0 (nI P, nI Q, op, wh, pn, nx, cu, ou, dn, rk, sn, sc, upd (upd aC q (aC (Q + q))) (Q + q) 0, upd aD q 0, aS, aI, aO, aA, aR, aG, aT, aJ, aK)) → wX_dropDiverter_50 post (nI q) (nI (Q + q)) z (nI P) (nI Q) op wh pn nx cu ou dn rk sn sc aC aD aS aI aO aA aR aG aT aJ aK := by
            intro post z g0 g1
            unfold wX_dropDiverter_50
            rw [cq, ca]
            exact ⟨vq12, nm_e (br_c g0 (fun y => ⟨va', vq, nm_e ⟨va', nm_e (g1 y)⟩⟩))⟩
          unfold wpX_dropDiverter
          dsimp only
          rw [cq]
          refine ⟨vq12, br_f ha0 (nm_r (e' := nI (Q + q)) (nI_add Q q) ?_)⟩
          rw [ca]
          refine ⟨va', ?_⟩
          by_cases haw : cl_cn (aC (Q + q)) = 0 ∧ cl_ow (aC (Q + q)) = -1
          · refine xx_occ0 haw.1 (o5a.mpr haw.2) (br_t rfl (X50 _ 0 (fun _ => HY _ (fun _ _ => ?_) (fun z => absurd z (fun y => y.elim (fun t => t haw.1) (fun t => t haw.2)))) (fun z => absurd rfl z)))
            exact br_t rfl (br_t rfl (yy_d151 hq hQ12 hC (fun _ => br_t rfl (br_t rfl (And.intro rfl (zz_in F0)))) (fun z => absurd (by decide) z)))
          · have haw' : ¬ cl_cn (aC (Q + q)) = 0 ∨ ¬ cl_ow (aC (Q + q)) = -1 := by
              by_cases z : cl_cn (aC (Q + q)) = 0
              · exact Or.inr (fun y => haw ⟨z, y⟩)
              · exact Or.inl z
            refine xx_occ1 (haw'.elim Or.inl (fun z => Or.inr (fun y => z (o5a.mp y)))) (br_f (by decide) ⟨vq, ?_⟩)
            by_cases hmo : cl_cn (aC q) = 0 ∧ cl_ow (aC q) = -1
            · refine xx_occ0 hmo.1 (o5m.mpr hmo.2) (br_t rfl (X50 _ 1 (fun z => absurd z (by decide)) (fun _ => HY _ (fun a b => absurd ⟨a, b⟩ haw) (fun _ => ?_))))
              refine br_t rfl (br_f (by decide) ?_)
              rw [ix_c0 hq24, c1, em, em1]
              exact ⟨ix_v0 hq24, br_t hmo.1 ⟨ix_v hq24 1 (by decide), br_t hmo.2 (yy_d151 hq hQ12 hC (fun _ => br_t rfl (br_f (by decide) (yy_move (by omega) hq24 (by omega) (And.intro rfl (zz_in F1))))) (fun z => absurd (by decide) z))⟩⟩
            · have hmo' : ¬ cl_cn (aC q) = 0 ∨ ¬ cl_ow (aC q) = -1 := by
                by_cases z : cl_cn (aC q) = 0
                · exact Or.inr (fun y => hmo ⟨z, y⟩)
                · exact Or.inl z
              refine xx_occ1 (hmo'.elim Or.inl (fun z => Or.inr (fun y => z (o5m.mp y)))) (br_f (by decide) (HY _ (fun a b => absurd ⟨a, b⟩ haw) (fun _ => ?_)))
              refine br_t rfl (br_f (by decide) ?_)
              rw [ix_c0 hq24, c1, em, em1]
              exact ⟨ix_v0 hq24, br_c (fun a => ⟨ix_v hq24 1 (by decide), br_f (fun b => hmo ⟨a, b⟩) (And.intro rfl (zz_in F))⟩) (fun _ => And.intro rfl (zz_in F))⟩
      · -- a new diverter
        obtain ⟨j, hj31, rfl⟩ := nI_of hn
        have hj : j < P := (nI_ltI hj31 (by omega)).mp hlt
        refine br_f (nI_pos hj31) ?_
        unfold wpX_addDiverter
        dsimp only
        rw [cq]
        refine ⟨vq12, ?_⟩
        rcases Nat.eq_zero_or_pos d with rfl | hpos
        · have hb0 : bD q < 0 := by rw [eb]; decide
          have hD' : rl_D (upd aD q (nI j + 1)) (upd bD q (nI j)) := rl_Du hD (d := j + 1) (by omega) (nI_1 j) (nI_pred j).symm
          have F0 : rl_F P Q op wh nx cu rk sn sc aC (upd aD q (nI j + 1)) aS aA aR aG aT aJ aK bC bB bV (upd bD q (nI j)) bR := ⟨⟨hP2, hP6, hQ2, hQ12, hC, hD', hT, hA, hR⟩, Or.inl hz⟩
          have F1 : rl_F P Q op wh nx cu rk sn sc (upd (upd aC (Q + q) (aC q)) q 0) (upd aD q (nI j + 1)) aS aA aR aG aT aJ aK (u5_f (u5_f bC (Q + q) (bC (5 * q)) (bC (5 * q + 1)) (bC (5 * q + 2)) (bC (5 * q + 3)) (bC (5 * q + 4))) q 0 (-1) 0 0 0) bB bV (upd bD q (nI j)) bR := ⟨⟨hP2, hP6, hQ2, hQ12, cl_Emv hC (by omega), hD', hT, hA, hR⟩, Or.inl hz⟩
          have hm1 : ¬ nI j = -1 := ix_m1 j (by omega)
          have HY : ∀ post : Int32 → SY → Prop, (∀ z : Int32, wY_divert_151 post (nI q) (nI j) (nI (5 * q)) (nI (5 * (Q + q))) z (nI P) (nI Q) op wh nx cu sn sc ou rk pn dn bC bB bV bD aS aI aO aA bR) → wpY_divert post (nI P, nI Q, op, wh, nx, cu, sn, sc, ou, rk, pn, dn, bC, bB, bV, bD, aS, aI, aO, aA, bR) (nI q) (nI j) := by
            intro post g
            refine H1 _ (yy_ref0 hd ho (br_t rfl (br_f (nI_pos hj31) ?_)))
            unfold wY_divert_50
            rw [cq]
            exact ⟨vq12, br_t hb0 (yy_d64 hq hQ12 hC (by decide) (fun _ _ => br_f hm1 (g 0)) (fun _ => br_f hm1 (g 1)))⟩
          refine br_t (by rw [ea]; rfl) ⟨vq12, nm_e ⟨vq, nm_e (xx_ow ?_)⟩⟩
          by_cases how : cl_ow (aC q) = nI j
          · exact br_t how (HY _ (fun z => yy_d151 hq hQ12 hC (fun _ => br_f hm1 (And.intro rfl (zz_in F0))) (fun _ y => absurd how y)))
          · refine br_f how ?_
            rw [nI_add, ca]
            exact ⟨va', nm_e ⟨vq, nm_e (HY _ (fun z => yy_d151 hq hQ12 hC (fun y => absurd y (fun t => t.elim (nI_pos hj31) how)) (fun _ _ b' eb' => by subst eb'; exact br_f hm1 (And.intro rfl (zz_in F1)))))⟩⟩
        · have ha0 : ¬ aD q = 0 := by rw [ea]; exact nI_ne0 hpos (by omega)
          have hb0 : ¬ bD q < 0 := by
            rw [eb]
            obtain ⟨i, rfl⟩ : ∃ i, d = i + 1 := ⟨d - 1, by omega⟩
            rw [nI_pred]
            exact nI_pos (by omega)
          refine br_f ha0 (H1 _ (yy_ref0 hd ho (br_t rfl (br_f (nI_pos hj31) ?_))))
          unfold wY_divert_50
          rw [cq]
          exact ⟨vq12, br_f hb0 (br_t rfl (And.intro rfl (zz_in F)))⟩
  · have H : ∀ z : Int32, wY_divert_31 (fun r' v' => r' = -2 ∧ i_Rel (k + 5) (nI P, nI Q, op, wh, pn, nx, cu, ou, dn, rk, sn, sc, aC, aD, aS, aI, aO, aA, aR, aG, aT, aJ, aK) v') v1 v2 z (nI P) (nI Q) op wh nx cu sn sc ou rk pn dn bC bB bV bD aS aI aO aA bR := fun z => yy_refD hd (br_f (by decide) (And.intro rfl (zz_in F)))
    exact br_f hd (yy_divA (H 1) (fun _ _ _ _ => H 0))
theorem i_vc_edit {k : Nat} {u : SX} {v : SY} (I : i_Rel k u v) (hk : k + 5 ≤ 2562) (v1 : Int32) (v2 : Int32) : wpX_edit (fun r u' => wpY_edit (fun r' v' => r' = r ∧ i_Rel (k + 5) u' v') v v1 v2) u v1 v2 := by
  refine zz_el (M := fun u v => wpX_edit (fun r u' => wpY_edit (fun r' v' => r' = r ∧ i_Rel (k + 5) u' v') v v1 v2) u v1 v2) I ?_
  intro P Q op wh pn nx cu ou dn rk sn sc aC aD aS aI aO aA aR aG aT aJ aK bC bB bV bD bR F
  have hS := F.1
  obtain ⟨hP2, hP6, hQ2, hQ12, hC, hD, hT, hA, hR⟩ := hS
  by_cases hd : dn = 0
  · have HB : (v1 < 0 ∨ 2 * nI Q ≤ v1 ∨ v2 < 0 ∨ ¬ v2 ≤ 99) → wpY_edit (fun r' v' => r' = -9 ∧ i_Rel (k + 5) (nI P, nI Q, op, wh, pn, nx, cu, ou, dn, rk, sn, sc, aC, aD, aS, aI, aO, aA, aR, aG, aT, aJ, aK) v') (nI P, nI Q, op, wh, nx, cu, sn, sc, ou, rk, pn, dn, bC, bB, bV, bD, aS, aI, aO, aA, bR) v1 v2 := fun hb =>
      yy_ediA (yy_refB hd (by decide) (br_f (by decide) (And.intro rfl (zz_in F)))) (fun a b c d => absurd hb (fun z => z.elim a (fun z => z.elim b (fun z => z.elim c (fun z => z d)))))
    by_cases hp0 : v1 < 0
    · exact br_t hd (xx_isPlace0 (Or.inl hp0) (br_t rfl (HB (Or.inl hp0))))
    · by_cases hp1 : 2 * nI Q ≤ v1
      · exact br_t hd (xx_isPlace0 (Or.inr hp1) (br_t rfl (HB (Or.inr (Or.inl hp1)))))
      · refine br_t hd (xx_isPlace1 hp0 hp1 (br_f (by decide) (br_c (fun z => HB (Or.inr (Or.inr (Or.inl z)))) (fun h1 => br_c (fun h99 => ?_) (fun z => HB (Or.inr (Or.inr (Or.inr z))))))))
        have H1 : ∀ post : Int32 → SY → Prop, wY_edit_30 post v1 v2 0 (nI P) (nI Q) op wh nx cu sn sc ou rk pn dn bC bB bV bD aS aI aO aA bR → wpY_edit post (nI P, nI Q, op, wh, nx, cu, sn, sc, ou, rk, pn, dn, bC, bB, bV, bD, aS, aI, aO, aA, bR) v1 v2 := fun post H => br_f hp0 (br_f hp1 (br_f h1 (br_t h99 H)))
        refine br_c (fun ho => ?_) (fun ho => H1 _ (yy_refO hd ho (br_f (by decide) (And.intro rfl (zz_in F)))))
        obtain ⟨c, hc, rfl⟩ := nI_of2 (M := 99) (n := 99) (by decide) h1 h99
        obtain ⟨p, hp31, rfl⟩ := nI_of hp0
        have hp : p < 2 * Q := by
          rw [ix_2, nI_leI (by omega) hp31] at hp1
          omega
        have hp24 : p < 24 := by omega
        have cp : (nI p).toNatClampNeg = p := nI_clamp (by omega)
        have vq : vp_in (nI p) 24 := vp_in_nI hp24 (by decide)
        obtain ⟨e0, e1, e2, e3, e4, e5⟩ := hC p hp24
        obtain ⟨m0, m1, m2, m3, m4⟩ := cl_wcF (v := aC p) (c := c) (by omega)
        have F' : rl_F P Q op wh nx cu rk sn sc (upd aC p (cl_wc (aC p) (nI c))) aD aS aA aR aG aT aJ aK (upd bC (5 * p) (nI c)) bB bV bD bR := by
          refine ⟨⟨hP2, hP6, hQ2, hQ12, cl_Eupd hC (fun j hj => pk_un (by omega)) (pk_us.trans m0.symm) ?_ ?_ ?_ ?_ (fun z => e5 (m1.symm.trans z)), hD, hT, hA, hR⟩, Or.inl (rl_wZ F.2 ho)⟩
          · rw [pk_un (by omega), e1, m1]
          · rw [pk_un (by omega), e2, m2]
          · rw [pk_un (by omega), e3, m3]
          · rw [pk_un (by omega), e4, m4]
        have HY : ∀ post : Int32 → SY → Prop, (cl_ow (aC p) < 0 → nI p < nI Q → post 0 (nI P, nI Q, op, wh, nx, cu, sn, sc, ou, rk, pn, dn, upd bC (5 * p) (nI c), bB, bV, bD, aS, aI, aO, aA, bR)) → (cl_ow (aC p) < 0 → ¬ nI p < nI Q → post (-4) (nI P, nI Q, op, wh, nx, cu, sn, sc, ou, rk, pn, dn, bC, bB, bV, bD, aS, aI, aO, aA, bR)) → (¬ cl_ow (aC p) < 0 → cl_cf (aC p) = 0 → post (-4) (nI P, nI Q, op, wh, nx, cu, sn, sc, ou, rk, pn, dn, bC, bB, bV, bD, aS, aI, aO, aA, bR)) → (¬ cl_ow (aC p) < 0 → ¬ cl_cf (aC p) = 0 → post 0 (nI P, nI Q, op, wh, nx, cu, sn, sc, ou, rk, pn, dn, upd bC (5 * p) (nI c), bB, bV, bD, aS, aI, aO, aA, bR)) → wY_edit_30 post (nI p) (nI c) 0 (nI P) (nI Q) op wh nx cu sn sc ou rk pn dn bC bB bV bD aS aI aO aA bR := by
          intro post g1 g2 g3 g4
          have H80 : post 0 (nI P, nI Q, op, wh, nx, cu, sn, sc, ou, rk, pn, dn, upd bC (5 * p) (nI c), bB, bV, bD, aS, aI, aO, aA, bR) → wY_edit_80 post (nI p) (nI c) (nI P) (nI Q) op wh nx cu sn sc ou rk pn dn bC bB bV bD aS aI aO aA bR := by
            intro h
            unfold wY_edit_80
            rw [ix_5, ix_c0 hp24]
            exact ⟨ix_v0 hp24, nm_e h⟩
          refine yy_ref0 hd ho (br_t rfl ?_)
          rw [ix_5, show (nI (5 * p) + 1).toNatClampNeg = 5 * p + 1 from ix_c hp24 1 (by decide), show (nI (5 * p) + 3).toNatClampNeg = 5 * p + 3 from ix_c hp24 3 (by decide), e1, e3]
          exact ⟨ix_v hp24 1 (by decide), br_c (fun a => br_c (fun b => H80 (g1 a b)) (fun b => g2 a b)) (fun a => ⟨ix_v hp24 3 (by decide), br_c (fun b => g3 a b) (fun b => H80 (g4 a b))⟩)⟩
        have H78 : ∀ post : Int32 → SX → Prop, post 0 (nI P, nI Q, op, wh, pn, nx, cu, ou, dn, rk, sn, sc, upd aC p (cl_wc (aC p) (nI c)), aD, aS, aI, aO, aA, aR, aG, aT, aJ, aK) → wX_edit_78 post (nI p) (nI c) (aC p) (nI P) (nI Q) op wh pn nx cu ou dn rk sn sc aC aD aS aI aO aA aR aG aT aJ aK := by
          intro post h
          unfold wX_edit_78
          refine xx_wc ?_
          rw [cp]
          exact ⟨vq, nm_e h⟩
        rw [cp]
        refine ⟨vq, nm_e (xx_ow (br_c (fun a => br_c (fun b => H78 _ (H1 _ (HY _ (fun _ _ => And.intro rfl (zz_in F')) (fun _ z => absurd b z) (fun z => absurd a z) (fun z => absurd a z)))) (fun b => H1 _ (HY _ (fun _ z => absurd z b) (fun _ _ => And.intro rfl (zz_in F)) (fun z => absurd a z) (fun z => absurd a z)))) (fun a => xx_cf (br_c (fun b => H1 _ (HY _ (fun z => absurd z a) (fun z => absurd z a) (fun _ _ => And.intro rfl (zz_in F)) (fun _ z => absurd b z))) (fun b => H78 _ (H1 _ (HY _ (fun z => absurd z a) (fun z => absurd z a) (fun _ z => absurd z b) (fun _ _ => And.intro rfl (zz_in F')))))))))⟩
  · have H : ∀ z : Int32, wY_edit_30 (fun r' v' => r' = -2 ∧ i_Rel (k + 5) (nI P, nI Q, op, wh, pn, nx, cu, ou, dn, rk, sn, sc, aC, aD, aS, aI, aO, aA, aR, aG, aT, aJ, aK) v') v1 v2 z (nI P) (nI Q) op wh nx cu sn sc ou rk pn dn bC bB bV bD aS aI aO aA bR := fun z => yy_refD hd (br_f (by decide) (And.intro rfl (zz_in F)))
    exact br_f hd (yy_ediA (H 1) (fun _ _ _ _ => H 0))
end
section
/-! ===== sync, cut, resume ===== -/
theorem i_vc_sync {k : Nat} {u : SX} {v : SY} (I : i_Rel k u v) (hk : k + 5 ≤ 2562) : wpX_sync (fun r u' => wpY_sync (fun r' v' => r' = r ∧ i_Rel (k + 5) u' v') v) u := by
  refine zz_el (M := fun u v => wpX_sync (fun r u' => wpY_sync (fun r' v' => r' = r ∧ i_Rel (k + 5) u' v') v) u) I ?_
  intro P Q op wh pn nx cu ou dn rk sn sc aC aD aS aI aO aA aR aG aT aJ aK bC bB bV bD bR F
  by_cases hd : dn = 0
  · exact br_t hd (xx_save (br_t hd (yy_save (And.intro rfl (zz_in (rl_sync F))))))
  · exact br_f hd (br_f hd (And.intro rfl (zz_in F)))
theorem i_vc_cut {k : Nat} {u : SX} {v : SY} (I : i_Rel k u v) (hk : k + 5 ≤ 2562) : wpX_cut (fun r u' => wpY_cut (fun r' v' => r' = r ∧ i_Rel (k + 5) u' v') v) u := by
  refine zz_el (M := fun u v => wpX_cut (fun r u' => wpY_cut (fun r' v' => r' = r ∧ i_Rel (k + 5) u' v') v) u) I ?_
  intro P Q op wh pn nx cu ou dn rk sn sc aC aD aS aI aO aA aR aG aT aJ aK bC bB bV bD bR F
  by_cases hd : dn = 0
  · by_cases ho : op = 0
    · obtain ⟨_, hw, hn, hc, hr, hs, ht⟩ := rl_wZ F.2 ho
      subst hr
      refine br_t hd (nm_e (Exists.intro 1 (xx_cut22 (r := 0) (by omega) aC (fun i hi => absurd hi (by omega)) (br_t hd (Exists.intro 121 (yy_cut17z ho 120 0 rfl (And.intro rfl ?_)))))))
      subst hn hc hs ht
      exact zz_in F
    · obtain ⟨w, r, aB, hw, hwh, hp, hs, hr, hb, hj, hB, hV, hO⟩ := rl_wY F.2 ho
      have F' := rl_cut F ho hr (by have := hb.1; omega)
      subst hr
      exact br_t hd (nm_e (Exists.intro (r + 1) (xx_cut22 r hb.1 aC hj (br_t hd (Exists.intro 121 (yy_cut17 ho 120 0 rfl bC (And.intro rfl (zz_in F'))))))))
  · exact br_f hd (br_f hd (And.intro rfl (zz_in F)))
theorem i_vc_resume {k : Nat} {u : SX} {v : SY} (I : i_Rel k u v) (hk : k + 5 ≤ 2562) : wpX_resume (fun r u' => wpY_resume (fun r' v' => r' = r ∧ i_Rel (k + 5) u' v') v) u := by
  refine zz_el (M := fun u v => wpX_resume (fun r u' => wpY_resume (fun r' v' => r' = r ∧ i_Rel (k + 5) u' v') v) u) I ?_
  intro P Q op wh pn nx cu ou dn rk sn sc aC aD aS aI aO aA aR aG aT aJ aK bC bB bV bD bR F
  by_cases hd : dn = 0
  · exact br_t hd (br_t hd (And.intro rfl (zz_in F)))
  · exact br_f hd (br_f hd (And.intro rfl (zz_in F)))
/-! ===== getters ===== -/
theorem gt_n {x : Int32} (h0 : ¬ x < 0) {M : Int32} (n : Nat) (hM : M.toInt = n) (h : ¬ M < x) : ∃ j : Nat, j ≤ n ∧ x = nI j :=
  nI_of2 hM h0 (Int32.not_lt.mp h)
theorem i_vc_job {k : Nat} {u : SX} {v : SY} (I : i_Rel k u v) (hk : k + 5 ≤ 2562) (v1 : Int32) : wpX_job (fun r => wpY_job (fun r' => r' = r ∧ i_Rel (k + 5) u v) v v1) u v1 := by
  refine zz_el (M := fun u v => wpX_job (fun r => wpY_job (fun r' => r' = r ∧ i_Rel (k + 5) u v) v v1) u v1) I ?_
  intro P Q op wh pn nx cu ou dn rk sn sc aC aD aS aI aO aA aR aG aT aJ aK bC bB bV bD bR F
  have R : i_Rel (k + 5) (nI P, nI Q, op, wh, pn, nx, cu, ou, dn, rk, sn, sc, aC, aD, aS, aI, aO, aA, aR, aG, aT, aJ, aK) (nI P, nI Q, op, wh, nx, cu, sn, sc, ou, rk, pn, dn, bC, bB, bV, bD, aS, aI, aO, aA, bR) := zz_in F
  by_cases h0 : v1 < 0
  · exact br_t h0 (br_t h0 (And.intro rfl R))
  · by_cases h7 : 7 < v1
    · exact br_f h0 (br_t h7 (br_f h0 (br_f (Int32.not_le.mpr h7) (And.intro rfl R))))
    · obtain ⟨j, hj, rfl⟩ := gt_n h0 7 (by decide) h7
      have h7' : nI j ≤ 7 := Int32.not_lt.mp h7
      refine br_f h0 (br_f h7 ?_)
      have hj' : j = 0 ∨ j = 1 ∨ j = 2 ∨ j = 3 ∨ j = 4 ∨ j = 5 ∨ j = 6 ∨ j = 7 := by omega
      rcases hj' with rfl | rfl | rfl | rfl | rfl | rfl | rfl | rfl
      · exact br_t (by decide) (br_f h0 (br_t h7' (br_f (by decide) (br_t (by decide) (And.intro rfl R)))))
      · exact br_f (by decide) (br_t (by decide) (br_f h0 (br_t h7' (br_f (by decide) (br_f (by decide) (br_t (by decide) (And.intro rfl R)))))))
      · exact br_f (by decide) (br_f (by decide) (br_t (by decide) (br_f h0 (br_t h7' (br_f (by decide) (br_f (by decide) (br_f (by decide) (br_t (by decide) (And.intro rfl R)))))))))
      · exact br_f (by decide) (br_f (by decide) (br_f (by decide) (br_t (by decide) (br_f h0 (br_t h7' (br_f (by decide) (br_f (by decide) (br_f (by decide) (br_f (by decide) (And.intro rfl R))))))))))
      · refine br_f (by decide) (br_f (by decide) (br_f (by decide) (br_f (by decide) (br_t (by decide) ?_))))
        exact br_c (fun z => br_f h0 (br_t h7' (br_t (by decide) (br_t (by decide) (br_t z (And.intro rfl R)))))) (fun z => br_f h0 (br_t h7' (br_t (by decide) (br_t (by decide) (br_f z (And.intro rfl R))))))
      · exact br_f (by decide) (br_f (by decide) (br_f (by decide) (br_f (by decide) (br_f (by decide) (br_t (by decide) (br_f h0 (br_t h7' (br_t (by decide) (br_f (by decide) (br_t (by decide) (And.intro rfl R)))))))))))
      · exact br_f (by decide) (br_f (by decide) (br_f (by decide) (br_f (by decide) (br_f (by decide) (br_f (by decide) (br_t (by decide) (br_f h0 (br_t h7' (br_t (by decide) (br_f (by decide) (br_f (by decide) (br_t (by decide) (And.intro rfl R)))))))))))))
      · refine br_f (by decide) (br_f (by decide) (br_f (by decide) (br_f (by decide) (br_f (by decide) (br_f (by decide) (br_f (by decide) (br_t (by decide) ?_)))))))
        exact br_c (fun z => br_f h0 (br_t h7' (br_t (by decide) (br_f (by decide) (br_f (by decide) (br_f (by decide) (br_t z (And.intro rfl R)))))))) (fun z => br_f h0 (br_t h7' (br_t (by decide) (br_f (by decide) (br_f (by decide) (br_f (by decide) (br_f z (And.intro rfl R))))))))
theorem i_vc_pack {k : Nat} {u : SX} {v : SY} (I : i_Rel k u v) (hk : k + 5 ≤ 2562) (v1 : Int32) (v2 : Int32) : wpX_pack (fun r => wpY_pack (fun r' => r' = r ∧ i_Rel (k + 5) u v) v v1 v2) u v1 v2 := by
  refine zz_el (M := fun u v => wpX_pack (fun r => wpY_pack (fun r' => r' = r ∧ i_Rel (k + 5) u v) v v1 v2) u v1 v2) I ?_
  intro P Q op wh pn nx cu ou dn rk sn sc aC aD aS aI aO aA aR aG aT aJ aK bC bB bV bD bR F
  have R : i_Rel (k + 5) (nI P, nI Q, op, wh, pn, nx, cu, ou, dn, rk, sn, sc, aC, aD, aS, aI, aO, aA, aR, aG, aT, aJ, aK) (nI P, nI Q, op, wh, nx, cu, sn, sc, ou, rk, pn, dn, bC, bB, bV, bD, aS, aI, aO, aA, bR) := zz_in F
  obtain ⟨hP2, hP6, hQ2, hQ12, hC, hD, hT, hA, hR⟩ := F.1
  unfold wpX_pack
  rcases pk_ix v1 (n := P) (by omega) with h | h | ⟨j, hj, rfl⟩
  · exact xx_isPack0 (Or.inl h) (br_t rfl (br_t h (And.intro rfl R)))
  · refine xx_isPack0 (Or.inr h) (br_t rfl ?_)
    by_cases h0 : v1 < 0
    · exact br_t h0 (And.intro rfl R)
    · exact br_f h0 (br_t h (And.intro rfl R))
  · refine xx_isPack1 hj hP6 (br_f (by decide) ?_)
    have HY : ∀ post : Int32 → Prop, _ → wpY_pack post (nI P, nI Q, op, wh, nx, cu, sn, sc, ou, rk, pn, dn, bC, bB, bV, bD, aS, aI, aO, aA, bR) (nI j) v2 := fun post H => br_f (nI_pos (by omega)) (br_f (nI_ge hj (by omega)) H)
    have hv : vp_in (nI j) 6 := vp_in_nI (by omega) (by decide)
    by_cases h0 : v2 < 0
    · exact br_t h0 (HY _ (br_t h0 (And.intro rfl R)))
    · by_cases h2 : 2 < v2
      · exact br_f h0 (br_t h2 (HY _ (br_f h0 (br_f (Int32.not_le.mpr h2) (And.intro rfl R)))))
      · obtain ⟨i, hi, rfl⟩ := gt_n h0 2 (by decide) h2
        have h2' : nI i ≤ 2 := Int32.not_lt.mp h2
        refine br_f h0 (br_f h2 ?_)
        have hi' : i = 0 ∨ i = 1 ∨ i = 2 := by omega
        rcases hi' with rfl | rfl | rfl
        · exact br_t (by decide) ⟨hv, HY _ (br_f h0 (br_t h2' (br_t (by decide) ⟨hv, And.intro rfl R⟩)))⟩
        · exact br_f (by decide) (br_t (by decide) ⟨hv, HY _ (br_f h0 (br_t h2' (br_f (by decide) (br_t (by decide) ⟨hv, And.intro rfl R⟩))))⟩)
        · exact br_f (by decide) (br_f (by decide) (br_t (by decide) ⟨hv, HY _ (br_f h0 (br_t h2' (br_f (by decide) (br_f (by decide) ⟨hv, And.intro rfl R⟩))))⟩))
theorem i_vc_listed {k : Nat} {u : SX} {v : SY} (I : i_Rel k u v) (hk : k + 5 ≤ 2562) (v1 : Int32) (v2 : Int32) : wpX_listed (fun r => wpY_listed (fun r' => r' = r ∧ i_Rel (k + 5) u v) v v1 v2) u v1 v2 := by
  refine zz_el (M := fun u v => wpX_listed (fun r => wpY_listed (fun r' => r' = r ∧ i_Rel (k + 5) u v) v v1 v2) u v1 v2) I ?_
  intro P Q op wh pn nx cu ou dn rk sn sc aC aD aS aI aO aA aR aG aT aJ aK bC bB bV bD bR F
  have R : i_Rel (k + 5) (nI P, nI Q, op, wh, pn, nx, cu, ou, dn, rk, sn, sc, aC, aD, aS, aI, aO, aA, aR, aG, aT, aJ, aK) (nI P, nI Q, op, wh, nx, cu, sn, sc, ou, rk, pn, dn, bC, bB, bV, bD, aS, aI, aO, aA, bR) := zz_in F
  obtain ⟨hP2, hP6, hQ2, hQ12, hC, hD, hT, hA, hR⟩ := F.1
  unfold wpX_listed
  rcases pk_ix v1 (n := P) (by omega) with h | h | ⟨j, hj, rfl⟩
  · exact xx_isPack0 (Or.inl h) (br_t rfl (br_t h (And.intro rfl R)))
  · refine xx_isPack0 (Or.inr h) (br_t rfl ?_)
    by_cases h0 : v1 < 0
    · exact br_t h0 (And.intro rfl R)
    · exact br_f h0 (br_t h (And.intro rfl R))
  · refine xx_isPack1 hj hP6 (br_f (by decide) ?_)
    have hp : ¬ nI j < 0 := nI_pos (by omega)
    have hg : ¬ nI P ≤ nI j := nI_ge hj (by omega)
    rcases pk_ix v2 (n := Q) (by omega) with h | h | ⟨q, hq, rfl⟩
    · exact xx_isPath0 (Or.inl h) (br_t rfl (br_f hp (br_f hg (br_t h (And.intro rfl R)))))
    · refine xx_isPath0 (Or.inr h) (br_t rfl (br_f hp (br_f hg ?_)))
      by_cases h0 : v2 < 0
      · exact br_t h0 (And.intro rfl R)
      · exact br_f h0 (br_f (Int32.not_lt.mpr h) (And.intro rfl R))
    · refine xx_isPath1 hq hQ12 (br_f (by decide) ?_)
      have hv : vp_in (nI (12 * j + q)) 72 := vp_in_nI (by omega) (by decide)
      have HY : wpY_listed (fun r' => r' = aA (nI (12 * j + q)).toNatClampNeg ∧ i_Rel (k + 5) (nI P, nI Q, op, wh, pn, nx, cu, ou, dn, rk, sn, sc, aC, aD, aS, aI, aO, aA, aR, aG, aT, aJ, aK) (nI P, nI Q, op, wh, nx, cu, sn, sc, ou, rk, pn, dn, bC, bB, bV, bD, aS, aI, aO, aA, bR)) (nI P, nI Q, op, wh, nx, cu, sn, sc, ou, rk, pn, dn, bC, bB, bV, bD, aS, aI, aO, aA, bR) (nI j) (nI q) := by
        refine br_f hp (br_f hg (br_f (nI_pos (by omega)) (br_t (nI_lt hq (by omega)) ?_)))
        rw [ix_12y]
        exact ⟨hv, rfl, R⟩
      rw [ix_12x]
      exact ⟨hv, HY⟩
theorem rr_k1 {x y z : Int32} (h : rl_RR x y z) : (x &&& 1 = 0 ↔ y = 0) ∧ (x &&& 2 = 0 ↔ z = 0) := by
  rcases h with ⟨rfl, rfl, rfl⟩ | ⟨rfl, rfl, rfl⟩ | ⟨rfl, rfl, rfl⟩ | ⟨rfl, rfl, rfl⟩ <;> decide
theorem i_vc_related {k : Nat} {u : SX} {v : SY} (I : i_Rel k u v) (hk : k + 5 ≤ 2562) (v1 : Int32) (v2 : Int32) (v3 : Int32) : wpX_related (fun r => wpY_related (fun r' => r' = r ∧ i_Rel (k + 5) u v) v v1 v2 v3) u v1 v2 v3 := by
  refine zz_el (M := fun u v => wpX_related (fun r => wpY_related (fun r' => r' = r ∧ i_Rel (k + 5) u v) v v1 v2 v3) u v1 v2 v3) I ?_
  intro P Q op wh pn nx cu ou dn rk sn sc aC aD aS aI aO aA aR aG aT aJ aK bC bB bV bD bR F
  have R : i_Rel (k + 5) (nI P, nI Q, op, wh, pn, nx, cu, ou, dn, rk, sn, sc, aC, aD, aS, aI, aO, aA, aR, aG, aT, aJ, aK) (nI P, nI Q, op, wh, nx, cu, sn, sc, ou, rk, pn, dn, bC, bB, bV, bD, aS, aI, aO, aA, bR) := zz_in F
  obtain ⟨hP2, hP6, hQ2, hQ12, hC, hD, hT, hA, hR⟩ := F.1
  unfold wpX_related
  by_cases hv1 : v1 = 1 ∨ v1 = 2
  · have a1 : ¬ v1 < 1 := by rcases hv1 with rfl | rfl <;> decide
    have a2 : ¬ 2 < v1 := by rcases hv1 with rfl | rfl <;> decide
    refine xx_isRel1 hv1 (br_f (by decide) ?_)
    rcases pk_ix v2 (n := P) (by omega) with h | h | ⟨j, hj, rfl⟩
    · exact xx_isPack0 (Or.inl h) (br_t rfl (br_f a1 (br_f a2 (br_t h (And.intro rfl R)))))
    · refine xx_isPack0 (Or.inr h) (br_t rfl (br_f a1 (br_f a2 ?_)))
      by_cases h0 : v2 < 0
      · exact br_t h0 (And.intro rfl R)
      · exact br_f h0 (br_t h (And.intro rfl R))
    · have hp : ¬ nI j < 0 := nI_pos (by omega)
      have hg : ¬ nI P ≤ nI j := nI_ge hj (by omega)
      refine xx_isPack1 hj hP6 (br_f (by decide) ?_)
      rcases pk_ix v3 (n := P) (by omega) with h | h | ⟨i, hi, rfl⟩
      · exact xx_isPack0 (Or.inl h) (br_t rfl (br_f a1 (br_f a2 (br_f hp (br_f hg (br_t h (And.intro rfl R)))))))
      · refine xx_isPack0 (Or.inr h) (br_t rfl (br_f a1 (br_f a2 (br_f hp (br_f hg ?_)))))
        by_cases h0 : v3 < 0
        · exact br_t h0 (And.intro rfl R)
        · exact br_f h0 (br_f (Int32.not_lt.mpr h) (And.intro rfl R))
      · refine xx_isPack1 hi hP6 (br_f (by decide) ?_)
        have ci : (nI (6 * j + i)).toNatClampNeg = 6 * j + i := nI_clamp (by omega)
        have hrr := rr_k1 (hR (6 * j + i) (by omega))
        rw [ix_6x, ci]
        refine ⟨vp_in_nI (by omega) (by decide), ?_⟩
        have HY : ∀ post : Int32 → Prop, ((aR (6 * j + i) &&& v1) = 0 → post 0) → (¬ (aR (6 * j + i) &&& v1) = 0 → post 1) → wpY_related post (nI P, nI Q, op, wh, nx, cu, sn, sc, ou, rk, pn, dn, bC, bB, bV, bD, aS, aI, aO, aA, bR) v1 (nI j) (nI i) := by
          intro post g0 g1
          refine br_f a1 (br_f a2 (br_f hp (br_f hg (br_f (nI_pos (by omega)) (br_t (nI_lt hi (by omega)) ?_)))))
          rcases hv1 with rfl | rfl
          · rw [ix_r1, ci]
            exact ⟨vp_in_nI (by omega) (by decide), br_c (fun z => g0 (hrr.1.mpr z)) (fun z => g1 (fun y => z (hrr.1.mp y)))⟩
          · rw [ix_r2, nI_clamp (n := 36 + (6 * j + i)) (by omega)]
            exact ⟨vp_in_nI (by omega) (by decide), br_c (fun z => g0 (hrr.2.mpr z)) (fun z => g1 (fun y => z (hrr.2.mp y)))⟩
        exact br_c (fun z => HY _ (fun _ => And.intro rfl R) (fun y => absurd z y)) (fun z => HY _ (fun y => absurd y z) (fun _ => And.intro rfl R))
  · have n1 : ¬ v1 = 1 := fun z => hv1 (Or.inl z)
    have n2 : ¬ v1 = 2 := fun z => hv1 (Or.inr z)
    refine xx_isRel0 n1 n2 (br_t rfl ?_)
    by_cases a1 : v1 < 1
    · exact br_t a1 (And.intro rfl R)
    · refine br_f a1 (br_t ?_ (And.intro rfl R))
      have b1 : ¬ v1.toInt = (1 : Int32).toInt := fun z => n1 (Int32.toInt_inj.mp z)
      have b2 : ¬ v1.toInt = (2 : Int32).toInt := fun z => n2 (Int32.toInt_inj.mp z)
      rw [Int32.lt_iff_toInt_lt] at a1 ⊢
      rw [show (1 : Int32).toInt = 1 from by decide] at a1 b1
      rw [show (2 : Int32).toInt = 2 from by decide] at b2 ⊢
      omega
/-! ===== file ===== -/
def cl_pt (v : Int32) : Nat → Int32
  | 0 => cl_cn v
  | 1 => cl_ow v
  | 2 => cl_sh v
  | 3 => cl_cf v
  | _ => cl_pe v
theorem cl_Ept {a b : Nat → Int32} {p t : Nat} (h : cl_E a b) (hp : p < 24) (ht : t < 5) : b (5 * p + t) = cl_pt (a p) t := by
  obtain ⟨e0, e1, e2, e3, e4, _⟩ := h p hp
  have ht' : t = 0 ∨ t = 1 ∨ t = 2 ∨ t = 3 ∨ t = 4 := by omega
  rcases ht' with rfl | rfl | rfl | rfl | rfl
  · exact e0
  · exact e1
  · exact e2
  · exact e3
  · exact e4
section
variable {P Q : Nat} {op wh pn nx cu ou dn rk sn sc rj : Int32} {aC aD aS aI aO aA aR aG aT aJ aK bC bB bV bD bR : Nat → Int32}
theorem xx_part {post : Int32 → Prop} {v : Int32} {t : Nat} (ht : t < 5) (h : post (cl_pt v t)) : wpX_part post (nI P, nI Q, op, wh, pn, nx, cu, ou, dn, rk, sn, sc, aC, aD, aS, aI, aO, aA, aR, aG, aT, aJ, aK) v (nI t) := by
  have ht' : t = 0 ∨ t = 1 ∨ t = 2 ∨ t = 3 ∨ t = 4 := by omega
  rcases ht' with rfl | rfl | rfl | rfl | rfl
  · exact br_f (by decide) (br_f (by decide) (br_t (by decide) (xx_cn h)))
  · exact br_f (by decide) (br_f (by decide) (br_f (by decide) (br_t (by decide) (xx_ow h))))
  · exact br_f (by decide) (br_f (by decide) (br_f (by decide) (br_f (by decide) (br_t (by decide) (xx_sh h)))))
  · exact br_f (by decide) (br_f (by decide) (br_f (by decide) (br_f (by decide) (br_f (by decide) (br_t (by decide) (xx_cf h))))))
  · exact br_f (by decide) (br_t (by decide) (xx_pe h))
end
end
section
/-! ===== file ===== -/
section
variable {P Q : Nat} {op wh pn nx cu ou dn rk sn sc rj : Int32} {aC aD aS aI aO aA aR aG aT aJ aK bC bB bV bD bR : Nat → Int32}
theorem xx_f148 {post : Int32 → Prop} {v : Int32} {s : Nat} (hs : s < 5) (h : post (cl_pt v s)) : wX_file_148 post (nI (8 + s)) v (nI P) (nI Q) op wh pn nx cu ou dn rk sn sc aC aD aS aI aO aA aR aG aT aJ aK := by
  unfold wX_file_148
  rw [show nI (8 + s) - 8 = nI s from (pk_sub (a := 8 + s) (b := 8) (by omega)).trans (congrArg nI (by omega))]
  exact xx_part hs h
/-- the cell at place p when the operation began -/
theorem fl_old {w r p c : Nat} {aB : Nat → Int32} (hQ : Q ≤ 12) (hc : c < Q) (hp : p = c ∨ p = Q + c) (O : rl_O Q (rl_pl Q bD (nI w)) aB aC (rl_un aJ aK r aC) aT aG) :
    (rl_pl Q bD (nI w) c = p → (aT c = 0 → aC p = aB p) ∧ (¬ aT c = 0 → aG c = aB p)) ∧ (¬ rl_pl Q bD (nI w) c = p → aC p = aB p) := by
  have hu : ∀ q, q < Q → p = rl_pl Q bD (nI w) q → q = c := by
    intro q hq e
    rcases rl_pl_or Q q bD (nI w) with h | h <;> omega
  refine ⟨fun e => ⟨fun z => (O.1 p (by omega) (fun q hq eq => (hu q hq eq).symm ▸ z)).1, fun z => e ▸ O.2 c hc z⟩, fun e => (O.1 p (by omega) (fun q hq eq => ?_)).1⟩
  obtain rfl := hu q hq eq
  exact absurd eq.symm e
theorem xx_f65 {post : Int32 → Prop} {s p c : Nat} (hs : s < 5) (hQ : Q ≤ 12) (hc : c < Q) (hp : p = c ∨ p = Q + c) (hD : rl_D aD bD) (W : rl_W P Q op wh nx cu rk sn sc aC aG aT aJ aK bB bV bD)
    (h0 : ¬ (op = 1 ∧ ¬ nx = 7 ∧ ¬ nx = 10) → post (cl_pt (aC p) s))
    (h1 : op = 1 → ¬ nx = 7 → ¬ nx = 10 → ∀ aB : Nat → Int32, cl_E aB bB → post (cl_pt (aB p) s)) : wX_file_65 post (nI p) (nI (8 + s)) (nI c) (nI P) (nI Q) op wh pn nx cu ou dn rk sn sc aC aD aS aI aO aA aR aG aT aJ aK := by
  have hp24 : p < 24 := by omega
  have cp : (nI p).toNatClampNeg = p := nI_clamp (by omega)
  have cc : (nI c).toNatClampNeg = c := nI_clamp (by omega)
  have vc : vp_in (nI c) 12 := vp_in_nI (by omega) (by decide)
  refine br_f (nI_nlt (b := 8) (by omega) (by omega)) (br_t (nI_le (b := 12) (by omega) (by decide)) ?_)
  rw [cp]
  refine ⟨vp_in_nI hp24 (by decide), nm_e ?_⟩
  by_cases ho : op = 1
  · refine br_t ho ?_
    by_cases h7 : nx = 7
    · exact br_t h7 (xx_f148 hs (h0 (fun z => z.2.1 h7)))
    · refine br_f h7 ?_
      by_cases h10 : nx = 10
      · exact br_t h10 (xx_f148 hs (h0 (fun z => z.2.2 h10)))
      · refine br_f h10 ?_
        have hDc : bD c = aD c - 1 := by
          obtain ⟨e, _, ea, eb⟩ := hD c (by omega)
          rw [ea, eb]
        obtain ⟨w, r, aB, hw, hwh, _, _, _, _, _, hB, _, O⟩ := rl_wY W (by rw [ho]; decide)
        have V := h1 ho h7 h10 aB hB
        have hold := fl_old hQ hc hp O
        refine xx_place (by omega) hDc ?_
        have hpl : rl_pl Q bD wh c < 24 := Nat.lt_of_lt_of_le (rl_pl_lt hc) (by omega)
        rw [hwh] at hpl ⊢
        by_cases e : rl_pl Q bD (nI w) c = p
        · refine br_t (by rw [e]) ⟨vc, ?_⟩
          rw [cc]
          refine br_c (fun z => xx_f148 hs ?_) (fun z => ⟨vc, nm_e (xx_f148 hs ?_)⟩)
          · rw [(hold.1 e).1 z]; exact V
          · rw [(hold.1 e).2 z]; exact V
        · refine br_f (fun z => e ((nI_eq (by omega) (by omega)).mp z)) (xx_f148 hs ?_)
          rw [hold.2 e]
          exact V
  · exact br_f ho (xx_f148 hs (h0 (fun z => ho z.1)))
theorem yy_f115 {post : Int32 → Prop} {s p : Nat} {z : Int32} (hs : s < 5) (hp : p < 24) (h0 : z = 0 → post (bC (5 * p + s))) (h1 : ¬ z = 0 → post (bB (5 * p + s))) : wY_file_115 post (nI p) (nI (8 + s)) z (nI P) (nI Q) op wh nx cu sn sc ou rk pn dn bC bB bV bD aS aI aO aA bR := by
  have e : 5 * nI p + nI (8 + s) - 8 = nI (5 * p + s) := by
    rw [ix_5, nI_add]
    exact (pk_sub (a := 5 * p + (8 + s)) (b := 8) (by omega)).trans (congrArg nI (by omega))
  have c : (nI (5 * p + s)).toNatClampNeg = 5 * p + s := nI_clamp (by omega)
  have hv : vp_in (nI (5 * p + s)) 120 := vp_in_nI (by omega) (by decide)
  unfold wY_file_115
  rw [e, c]
  exact br_c (fun y => ⟨hv, h0 y⟩) (fun y => ⟨hv, h1 y⟩)
end
theorem i_vc_file {k : Nat} {u : SX} {v : SY} (I : i_Rel k u v) (hk : k + 5 ≤ 2562) (v1 : Int32) (v2 : Int32) : wpX_file (fun r => wpY_file (fun r' => r' = r ∧ i_Rel (k + 5) u v) v v1 v2) u v1 v2 := by
  refine zz_el (M := fun u v => wpX_file (fun r => wpY_file (fun r' => r' = r ∧ i_Rel (k + 5) u v) v v1 v2) u v1 v2) I ?_
  intro P Q op wh pn nx cu ou dn rk sn sc aC aD aS aI aO aA aR aG aT aJ aK bC bB bV bD bR F
  have R : i_Rel (k + 5) (nI P, nI Q, op, wh, pn, nx, cu, ou, dn, rk, sn, sc, aC, aD, aS, aI, aO, aA, aR, aG, aT, aJ, aK) (nI P, nI Q, op, wh, nx, cu, sn, sc, ou, rk, pn, dn, bC, bB, bV, bD, aS, aI, aO, aA, bR) := zz_in F
  obtain ⟨hP2, hP6, hQ2, hQ12, hC, hD, hT, hA, hR⟩ := F.1
  unfold wpX_file
  by_cases hp0 : v1 < 0
  · exact xx_isPlace0 (Or.inl hp0) (br_t rfl (br_t hp0 (And.intro rfl R)))
  · by_cases hp1 : 2 * nI Q ≤ v1
    · exact xx_isPlace0 (Or.inr hp1) (br_t rfl (br_f hp0 (br_t hp1 (And.intro rfl R))))
    · refine xx_isPlace1 hp0 hp1 (br_f (by decide) ?_)
      have HY : ∀ (post : Int32 → Prop), _ → wpY_file post (nI P, nI Q, op, wh, nx, cu, sn, sc, ou, rk, pn, dn, bC, bB, bV, bD, aS, aI, aO, aA, bR) v1 v2 := fun post H => br_f hp0 (br_f hp1 H)
      obtain ⟨p, hp31, rfl⟩ := nI_of hp0
      have hp : p < 2 * Q := by
        rw [ix_2, nI_leI (by omega) hp31] at hp1
        omega
      have hp24 : p < 24 := by omega
      have cp : (nI p).toNatClampNeg = p := nI_clamp (by omega)
      -- the path of the place
      obtain ⟨c, hc, hpc, HX⟩ : ∃ c : Nat, c < Q ∧ (p = c ∨ p = Q + c) ∧ ∀ (post : Int32 → Prop), wX_file_29 post (nI p) v2 (nI c) (nI P) (nI Q) op wh pn nx cu ou dn rk sn sc aC aD aS aI aO aA aR aG aT aJ aK → ((nI Q ≤ nI p → wX_file_29 post (nI p) v2 (nI p - nI Q) (nI P) (nI Q) op wh pn nx cu ou dn rk sn sc aC aD aS aI aO aA aR aG aT aJ aK) ∧ (¬ nI Q ≤ nI p → wX_file_29 post (nI p) v2 (nI p) (nI P) (nI Q) op wh pn nx cu ou dn rk sn sc aC aD aS aI aO aA aR aG aT aJ aK)) := by
        by_cases h : Q ≤ p
        · refine ⟨p - Q, by omega, Or.inr (by omega), fun post H => br_t (nI_le h (by omega)) ?_⟩
          rw [pk_sub h]
          exact H
        · exact ⟨p, by omega, Or.inl rfl, fun post H => br_f (nI_ge (by omega) (by omega)) H⟩
      refine HX _ ?_
      by_cases hn : v2 < 0
      · have h5 : ¬ v2 = 5 := fun z => absurd (z ▸ hn) (by decide)
        exact br_f h5 (br_t hn (br_t (Int32.lt_trans hn (by decide)) (HY _ (br_t hn (And.intro rfl R)))))
      · by_cases h12 : 12 < v2
        · have h5 : ¬ v2 = 5 := fun z => absurd (z ▸ h12) (by decide)
          have h4 : 4 < v2 := Int32.lt_trans (by decide) h12
          have h8 : ¬ v2 < 8 := fun z => absurd (Int32.lt_trans h12 z) (by decide)
          exact br_f h5 (br_f hn (br_t h4 (br_f h8 (br_f (Int32.not_le.mpr h12) (HY _ (br_f hn (br_t h12 (And.intro rfl R))))))))
        · obtain ⟨t, ht, rfl⟩ := gt_n hn 12 (by decide) h12
          by_cases ht5 : t < 5
          · have n5 : ¬ nI t = 5 := fun z => absurd ((nI_eq (b := 5) (by omega) (by decide)).mp z) (by omega)
            have n6 : ¬ nI t = 6 := fun z => absurd ((nI_eq (b := 6) (by omega) (by decide)).mp z) (by omega)
            have n7 : ¬ nI t = 7 := fun z => absurd ((nI_eq (b := 7) (by omega) (by decide)).mp z) (by omega)
            have n4 : ¬ (4 : Int32) < nI t := nI_nlt (a := 4) (by omega) (by omega)
            have g5 : ¬ (5 : Int32) ≤ nI t := nI_ge (b := 5) (by omega) (by decide)
            refine br_f n5 (br_f hn (br_f n4 ⟨vp_in_nI hp24 (by decide), ?_⟩))
            rw [cp]
            refine xx_part ht5 (HY _ (br_f hn (br_f h12 (br_f n6 (br_f n7 (br_f n5 (br_f g5 ?_)))))))
            rw [ix_5, nI_add, nI_clamp (n := 5 * p + t) (by omega), cl_Ept hC hp24 ht5]
            exact ⟨vp_in_nI (by omega) (by decide), rfl, R⟩
          · by_cases ht8 : 8 ≤ t
            · obtain ⟨s, rfl⟩ : ∃ s, t = 8 + s := ⟨t - 8, by omega⟩
              have hs : s < 5 := by omega
              have n5 : ¬ nI (8 + s) = 5 := fun z => absurd ((nI_eq (b := 5) (by omega) (by decide)).mp z) (by omega)
              have n6 : ¬ nI (8 + s) = 6 := fun z => absurd ((nI_eq (b := 6) (by omega) (by decide)).mp z) (by omega)
              have n7 : ¬ nI (8 + s) = 7 := fun z => absurd ((nI_eq (b := 7) (by omega) (by decide)).mp z) (by omega)
              have g4 : (4 : Int32) < nI (8 + s) := nI_lt (a := 4) (by omega) (by omega)
              have g5 : (5 : Int32) ≤ nI (8 + s) := nI_le (a := 5) (by omega) (by omega)
              refine br_f n5 (br_f hn (br_t g4 (xx_f65 hs hQ12 hc hpc hD F.2 (fun hz => HY _ (br_f hn (br_f h12 (br_f n6 (br_f n7 (br_f n5 (br_t g5 ?_))))))) (fun a b c aB hB => HY _ (br_f hn (br_f h12 (br_f n6 (br_f n7 (br_f n5 (br_t g5 (br_t a (br_f b (br_f c (yy_f115 hs hp24 (fun z => absurd z (by decide)) (fun _ => ⟨cl_Ept hB hp24 hs, R⟩)))))))))))))))
              have H0 : wY_file_115 (fun r' => r' = cl_pt (aC p) s ∧ i_Rel (k + 5) (nI P, nI Q, op, wh, pn, nx, cu, ou, dn, rk, sn, sc, aC, aD, aS, aI, aO, aA, aR, aG, aT, aJ, aK) (nI P, nI Q, op, wh, nx, cu, sn, sc, ou, rk, pn, dn, bC, bB, bV, bD, aS, aI, aO, aA, bR)) (nI p) (nI (8 + s)) 0 (nI P) (nI Q) op wh nx cu sn sc ou rk pn dn bC bB bV bD aS aI aO aA bR := yy_f115 hs hp24 (fun _ => ⟨cl_Ept hC hp24 hs, R⟩) (fun z => absurd rfl z)
              exact br_c (fun a => br_c (fun _ => H0) (fun b => br_c (fun _ => H0) (fun c => absurd ⟨a, b, c⟩ hz))) (fun _ => H0)
            · have ht' : t = 5 ∨ t = 6 ∨ t = 7 := by omega
              rcases ht' with rfl | rfl | rfl
              · have cc : (nI c).toNatClampNeg = c := nI_clamp (by omega)
                obtain ⟨d, _, ea, eb⟩ := hD c (by omega)
                have V : aD c - 1 = bD c := by rw [ea, eb]
                refine br_t (by decide) ⟨vp_in_nI (by omega) (by decide), HY _ (br_f hn (br_f h12 (br_f (by decide) (br_f (by decide) (br_t (by decide) ?_)))))⟩
                rw [cc, V]
                rcases hpc with rfl | rfl
                · refine br_f (nI_ge hc (by omega)) ⟨vp_in_nI (by omega) (by decide), ?_⟩
                  rw [cc]
                  exact ⟨rfl, R⟩
                · refine br_t (nI_le (by omega) (by omega)) ?_
                  rw [pk_sub (by omega), Nat.add_sub_cancel_left, cc]
                  exact ⟨vp_in_nI (by omega) (by decide), rfl, R⟩
              · exact br_f (by decide) (br_f hn (br_t (by decide) (br_t (by decide) (HY _ (br_f hn (br_f h12 (br_t (by decide) (And.intro rfl R))))))))
              · exact br_f (by decide) (br_f hn (br_t (by decide) (br_t (by decide) (HY _ (br_f hn (br_f h12 (br_f (by decide) (br_t (by decide) (And.intro rfl R)))))))))
end
section
/-! ===== begin ===== -/
section
variable {P Q : Nat} {op wh pn nx cu ou dn rk sn sc rj : Int32} {aC aD aS aI aO aA aR aG aT aJ aK bC bB bV bD bR : Nat → Int32}
theorem yy_begA {post : Int32 → SY → Prop} {v1 v2 t : Int32} (h1 : wY_begin_28 post v1 v2 t 1 (nI P) (nI Q) op wh nx cu sn sc ou rk pn dn bC bB bV bD aS aI aO aA bR) (h0 : ¬ v1 < 1 → ¬ 4 < v1 → ¬ v2 < 0 → v2 < nI P → wY_begin_28 post v1 v2 t 0 (nI P) (nI Q) op wh nx cu sn sc ou rk pn dn bC bB bV bD aS aI aO aA bR) : wpY_begin post (nI P, nI Q, op, wh, nx, cu, sn, sc, ou, rk, pn, dn, bC, bB, bV, bD, aS, aI, aO, aA, bR) v1 v2 t :=
  br_c (fun _ => h1) (fun a => br_c (fun _ => h1) (fun b => br_c (fun _ => h1) (fun c => br_c (fun d => h0 a b c d) (fun _ => h1))))
/-- the first kind of an operation -/
theorem lk_fk {w : Nat} (hw : w < 6) (ho : op = 1 ∨ op = 2 ∨ op = 3 ∨ op = 4) :
    ∃ k : Int32, fw_al op k ∧ (∀ post : Int32 → Prop, post k → wpX_firstKind post (nI P, nI Q, op, nI w, pn, nx, cu, ou, dn, rk, sn, sc, aC, aD, aS, aI, aO, aA, aR, aG, aT, aJ, aK)) ∧ (∀ post : Int32 → Prop, post k → wpY_following post (nI P, nI Q, op, nI w, nx, cu, sn, sc, ou, rk, pn, dn, bC, bB, bV, bD, aS, aI, aO, aA, bR) 0) := by
  have cw : (nI w).toNatClampNeg = w := nI_clamp (by omega)
  have vw : vp_in (nI w) 6 := vp_in_nI hw (by decide)
  rcases ho with rfl | rfl | rfl | rfl
  · by_cases hu : aS w < 3
    · exact ⟨3, Or.inl ⟨rfl, by decide⟩, fun post hp => br_f (by decide) (br_f (by decide) (br_t rfl (xx_upg hw (fun _ => br_t rfl hp) (fun z => absurd hu z)))), fun post hp => yy_fo hw (fun _ => br_f (by decide) (br_t rfl (br_t rfl (br_t rfl (br_t rfl (br_t rfl hp)))))) (fun z => absurd hu z)⟩
    · exact ⟨1, Or.inl ⟨rfl, by decide⟩, fun post hp => br_f (by decide) (br_f (by decide) (br_t rfl (xx_upg hw (fun z => absurd z hu) (fun _ => br_f (by decide) hp)))), fun post hp => yy_fo hw (fun z => absurd z hu) (fun _ => br_f (by decide) (br_t rfl (br_t rfl (br_t rfl (br_f (by decide) hp)))))⟩
  · exact ⟨8, Or.inr (Or.inl ⟨rfl, by decide⟩), fun post hp => br_f (by decide) (br_f (by decide) (br_f (by decide) (br_t rfl hp))), fun post hp => yy_fo hw (fun _ => br_t rfl (br_t rfl hp)) (fun _ => br_t rfl (br_t rfl hp))⟩
  · by_cases hu : aS w = 2
    · have HX : ∀ post : Int32 → Prop, post 7 → wpX_firstKind post (nI P, nI Q, 3, nI w, pn, nx, cu, ou, dn, rk, sn, sc, aC, aD, aS, aI, aO, aA, aR, aG, aT, aJ, aK) := by
        intro post hp
        refine br_f (by decide) (br_f (by decide) (br_f (by decide) (br_f (by decide) (br_t rfl ⟨vw, ?_⟩))))
        rw [cw]
        exact br_t hu hp
      have HY : ∀ (post : Int32 → Prop) (z : Int32), post 7 → wY_following_18 post 0 z (nI P) (nI Q) 3 (nI w) nx cu sn sc ou rk pn dn bC bB bV bD aS aI aO aA bR := by
        intro post z hp
        refine br_f (by decide) (br_f (by decide) (br_t rfl (br_t rfl ⟨vw, ?_⟩)))
        rw [cw]
        exact br_t hu hp
      exact ⟨7, Or.inr (Or.inr (Or.inl ⟨rfl, by decide⟩)), HX, fun post hp => yy_fo hw (fun _ => HY post 0 hp) (fun _ => HY post 1 hp)⟩
    · have HX : ∀ post : Int32 → Prop, post 1 → wpX_firstKind post (nI P, nI Q, 3, nI w, pn, nx, cu, ou, dn, rk, sn, sc, aC, aD, aS, aI, aO, aA, aR, aG, aT, aJ, aK) := by
        intro post hp
        refine br_f (by decide) (br_f (by decide) (br_f (by decide) (br_f (by decide) (br_t rfl ⟨vw, ?_⟩))))
        rw [cw]
        exact br_f hu hp
      have HY : ∀ (post : Int32 → Prop) (z : Int32), post 1 → wY_following_18 post 0 z (nI P) (nI Q) 3 (nI w) nx cu sn sc ou rk pn dn bC bB bV bD aS aI aO aA bR := by
        intro post z hp
        refine br_f (by decide) (br_f (by decide) (br_t rfl (br_t rfl ⟨vw, ?_⟩)))
        rw [cw]
        exact br_f hu hp
      exact ⟨1, Or.inr (Or.inr (Or.inl ⟨rfl, by decide⟩)), HX, fun post hp => yy_fo hw (fun _ => HY post 0 hp) (fun _ => HY post 1 hp)⟩
  · exact ⟨7, Or.inr (Or.inr (Or.inr ⟨rfl, by decide⟩)), fun post hp => br_f (by decide) (br_t (by decide) hp), fun post hp => yy_fo hw (fun _ => br_f (by decide) (br_f (by decide) (br_t rfl (br_f (by decide) hp)))) (fun _ => br_f (by decide) (br_f (by decide) (br_t rfl (br_f (by decide) hp))))⟩
/-- the operation's start, both sides -/
theorem bg_go {j : Nat} {o t : Int32} (ho : o = 1 ∨ o = 2 ∨ o = 3 ∨ o = 4) (hj : j < 6) (hQ : Q ≤ 12) (hD : rl_D aD bD) (hE : cl_E aC bC) :
    ∃ k' r' : Int32, rl_Pos Q o k' r' ∧ (∀ post : Int32 → SX → Prop, post 0 (nI P, nI Q, o, nI j, t, k', r', ou, dn, 0, k', r', aC, aD, aS, aI, aO, aA, aR, aG, cp_f (fun _ => 0) aT 0 12, aJ, aK) → ∃ n : Nat, wX_begin_75 post (nI P) (nI Q) o (nI j) t 0 (-1) ou dn rk sn sc n 0 aC aD aS aI aO aA aR aG aT aJ aK) ∧ (∀ post : Int32 → SY → Prop, post 0 (nI P, nI Q, o, nI j, k', r', k', r', ou, 0, t, dn, bC, cp_f bC bB 0 120, cp_f bC bV 0 120, bD, aS, aI, aO, aA, bR) → ∃ n : Nat, wY_begin_210 post (nI P) (nI Q) o (nI j) 0 (-1) sn sc ou rk t dn n 0 bC bB bV bD aS aI aO aA bR) := by
  obtain ⟨k1, ha, hX1, hY1⟩ := lk_fk (P := P) (Q := Q) (op := o) (w := j) (pn := t) (nx := 0) (cu := -1) (ou := ou) (dn := dn) (rk := rk) (sn := sn) (sc := sc) (aC := aC) (aD := aD) (aS := aS) (aI := aI) (aO := aO) (aA := aA) (aR := aR) (aG := aG) (aT := cp_f (fun _ => 0) aT 0 12) (aJ := aJ) (aK := aK) (bC := bC) (bB := cp_f bC bB 0 120) (bV := bV) (bD := bD) (bR := bR) hj ho
  obtain ⟨k', r', hat, hX, hY⟩ := lk_fwS (P := P) (op := o) (w := j) (pn := t) (kd := 0) (ou := ou) (dn := dn) (rk := rk) (rj := rk) (sn := sn) (sc := sc) (aS := aS) (aI := aI) (aO := aO) (aA := aA) (aR := aR) (aG := aG) (aT := cp_f (fun _ => 0) aT 0 12) (aJ := aJ) (aK := aK) (bB := cp_f bC bB 0 120) (bV := bV) (bR := bR) hj hQ hD hE ha hY1
  refine ⟨k', r', fw_pos hat, fun post h => ⟨13, xx_b75 12 0 rfl aT (br_t (by decide) (hX1 _ (hX _ (xx_save h))))⟩, fun post h => ⟨121, yy_b210 120 0 rfl bB (br_t (by decide) (hY _ (yy_save h)))⟩⟩
/-- refusals, both sides -/
theorem lk_refuse {j : Nat} {o t : Int32} (ho : o = 1 ∨ o = 2 ∨ o = 3 ∨ o = 4) (hj : j < P) (hP : P ≤ 6) (hT : rl_T aS) (hR : rl_R aR bR) (hd : dn = 0) (hz : op = 0) :
    ∃ r : Int32, (∀ post : Int32 → Prop, post r → wpX_refusalOf post (nI P, nI Q, op, wh, pn, nx, cu, ou, dn, rk, sn, sc, aC, aD, aS, aI, aO, aA, aR, aG, aT, aJ, aK) o (nI j)) ∧ (∀ post : Int32 → SY → Prop, (r = 0 → wY_begin_122 post o (nI j) t (nI P) (nI Q) op wh nx cu sn sc ou rk pn dn bC bB bV bD aS aI aO aA bR 1 (nI P)) → (¬ r = 0 → post r (nI P, nI Q, op, wh, nx, cu, sn, sc, ou, rk, pn, dn, bC, bB, bV, bD, aS, aI, aO, aA, bR)) → wY_begin_28 post o (nI j) t 0 (nI P) (nI Q) op wh nx cu sn sc ou rk pn dn bC bB bV bD aS aI aO aA bR) := by
  have cj : (nI j).toNatClampNeg = j := nI_clamp (by omega)
  have vj : vp_in (nI j) 6 := vp_in_nI (by omega) (by decide)
  have HX : ∀ (post : Int32 → Prop), ((o < 1 → ((aS j = 1 → post 0) ∧ (¬ aS j = 1 → post (-4)))) ∧ (¬ o < 1 → ((3 < o → ((aS j = 1 → post 0) ∧ (¬ aS j = 1 → post (-4)))) ∧ (¬ 3 < o → ((o = 1 → (vp_in (nI j) 6 ∧ ((aO j = 0 → post (-4)) ∧ (¬ aO j = 0 → wpX_hasConflict (fun r => ((r = 0 → post 0) ∧ (¬ r = 0 → post (-5)))) (nI P, nI Q, op, wh, pn, nx, cu, ou, dn, rk, sn, sc, aC, aD, aS, aI, aO, aA, aR, aG, aT, aJ, aK) (nI j))))) ∧ (¬ o = 1 → ((o = 2 → ((aS j = 3 → post 0) ∧ (¬ aS j = 3 → ((aS j = 4 → post 0) ∧ (¬ aS j = 4 → post (-4)))))) ∧ (¬ o = 2 → ((o = 3 → ((aS j = 0 → post (-4)) ∧ (¬ aS j = 0 → ((aS j = 1 → post (-4)) ∧ (¬ aS j = 1 → post 0))))) ∧ (¬ o = 3 → True)))))))))) → wpX_refusalOf post (nI P, nI Q, op, wh, pn, nx, cu, ou, dn, rk, sn, sc, aC, aD, aS, aI, aO, aA, aR, aG, aT, aJ, aK) o (nI j) := by
    intro post H
    unfold wpX_refusalOf
    dsimp only
    rw [cj]
    exact ⟨vj, nm_e H⟩
  have HY : ∀ (post : Int32 → SY → Prop), (o = 1 → aO j = 0 → post (-4) (nI P, nI Q, op, wh, nx, cu, sn, sc, ou, rk, pn, dn, bC, bB, bV, bD, aS, aI, aO, aA, bR)) → ((o = 1 → ¬ aO j = 0) → wY_begin_66 post o (nI j) t (aS j) (nI P) (nI Q) op wh nx cu sn sc ou rk pn dn bC bB bV bD aS aI aO aA bR) → wY_begin_28 post o (nI j) t 0 (nI P) (nI Q) op wh nx cu sn sc ou rk pn dn bC bB bV bD aS aI aO aA bR := by
    intro post g1 g2
    unfold wY_begin_28
    refine yy_ref0 hd hz (br_t rfl ?_)
    rw [cj]
    exact ⟨vj, nm_e (br_c (fun a => ⟨vj, br_c (fun b => g1 a b) (fun b => g2 (fun _ => b))⟩) (fun a => g2 (fun z => absurd z a)))⟩
  rcases ho with rfl | rfl | rfl | rfl
  · by_cases h0 : aO j = 0
    · exact ⟨-4, fun post hp => HX post (br_f (by decide) (br_f (by decide) (br_t rfl ⟨vj, br_t h0 hp⟩))), fun post _ hp => HY post (fun _ _ => hp (by decide)) (fun z => absurd h0 (z rfl))⟩
    · obtain ⟨r, hr, hcX, hcY⟩ := lk_conf (P := P) (Q := Q) (j := j) (tn := t) (op := op) (wh := wh) (pn := pn) (nx := nx) (cu := cu) (ou := ou) (dn := dn) (rk := rk) (sn := sn) (sc := sc) (aC := aC) (aD := aD) (aI := aI) (aO := aO) (aA := aA) (aG := aG) (aT := aT) (aJ := aJ) (aK := aK) (bC := bC) (bB := bB) (bV := bV) (bD := bD) hj hP hT hR P 0 (by omega)
      have H105 : ∀ post : Int32 → SY → Prop, (r = 0 → wY_begin_122 post 1 (nI j) t (nI P) (nI Q) op wh nx cu sn sc ou rk pn dn bC bB bV bD aS aI aO aA bR 1 (nI P)) → (r = 1 → post (-5) (nI P, nI Q, op, wh, nx, cu, sn, sc, ou, rk, pn, dn, bC, bB, bV, bD, aS, aI, aO, aA, bR)) → wY_begin_28 post 1 (nI j) t 0 (nI P) (nI Q) op wh nx cu sn sc ou rk pn dn bC bB bV bD aS aI aO aA bR := fun post g0 g1 => HY post (fun _ z => absurd z h0) (fun _ => br_f (by decide) (br_f (by decide) (br_f (by decide) ⟨P + 1, hcY post g0 g1⟩)))
      rcases hr with rfl | rfl
      · exact ⟨0, fun post hp => HX post (br_f (by decide) (br_f (by decide) (br_t rfl ⟨vj, br_f h0 (Exists.intro (P + 1) (hcX _ (br_t rfl hp)))⟩))), fun post g _ => H105 post g (fun z => absurd z (by decide))⟩
      · exact ⟨-5, fun post hp => HX post (br_f (by decide) (br_f (by decide) (br_t rfl ⟨vj, br_f h0 (Exists.intro (P + 1) (hcX _ (br_f (by decide) hp)))⟩))), fun post _ hp => H105 post (fun z => absurd z (by decide)) (fun _ => hp (by decide))⟩
  · by_cases h3 : aS j = 3 ∨ aS j = 4
    · refine ⟨0, fun post hp => HX post (br_f (by decide) (br_f (by decide) (br_f (by decide) (br_t rfl (br_c (fun _ => hp) (fun z => br_t (h3.resolve_left z) hp)))))), fun post g _ => HY post (fun z => absurd z (by decide)) (fun _ => ?_)⟩
      have H86 : wY_begin_86 post 2 (nI j) t (aS j) (nI P) (nI Q) op wh nx cu sn sc ou rk pn dn bC bB bV bD aS aI aO aA bR := br_f (by decide) (br_f (by decide) ⟨P + 1, yy_nconf hP (by decide) P 0 (by omega) (g rfl)⟩)
      exact br_t rfl (br_c (fun _ => H86) (fun z => br_t (h3.resolve_left z) H86))
    · have n3 : ¬ aS j = 3 := fun z => h3 (Or.inl z)
      have n4 : ¬ aS j = 4 := fun z => h3 (Or.inr z)
      exact ⟨-4, fun post hp => HX post (br_f (by decide) (br_f (by decide) (br_f (by decide) (br_t rfl (br_f n3 (br_f n4 hp)))))), fun post _ hp => HY post (fun z => absurd z (by decide)) (fun _ => br_t rfl (br_f n3 (br_f n4 (hp (by decide)))))⟩
  · by_cases h0 : aS j = 0
    · exact ⟨-4, fun post hp => HX post (br_f (by decide) (br_f (by decide) (br_f (by decide) (br_f (by decide) (br_t rfl (br_t h0 hp)))))), fun post _ hp => HY post (fun z => absurd z (by decide)) (fun _ => br_f (by decide) (br_t rfl (br_t h0 (hp (by decide)))))⟩
    · by_cases h1 : aS j = 1
      · exact ⟨-4, fun post hp => HX post (br_f (by decide) (br_f (by decide) (br_f (by decide) (br_f (by decide) (br_t rfl (br_f h0 (br_t h1 hp))))))), fun post _ hp => HY post (fun z => absurd z (by decide)) (fun _ => br_f (by decide) (br_t rfl (br_f h0 (br_t h1 (hp (by decide))))))⟩
      · exact ⟨0, fun post hp => HX post (br_f (by decide) (br_f (by decide) (br_f (by decide) (br_f (by decide) (br_t rfl (br_f h0 (br_f h1 hp))))))), fun post g _ => HY post (fun z => absurd z (by decide)) (fun _ => br_f (by decide) (br_t rfl (br_f h0 (br_f h1 (br_f (by decide) ⟨P + 1, yy_nconf hP (by decide) P 0 (by omega) (g rfl)⟩)))))⟩
  · by_cases h1 : aS j = 1
    · exact ⟨0, fun post hp => HX post (br_f (by decide) (br_t (by decide) (br_t h1 hp))), fun post g _ => HY post (fun z => absurd z (by decide)) (fun _ => br_f (by decide) (br_f (by decide) (br_t rfl (br_t h1 ⟨P + 1, yy_nconf hP (by decide) P 0 (by omega) (g rfl)⟩))))⟩
    · exact ⟨-4, fun post hp => HX post (br_f (by decide) (br_t (by decide) (br_f h1 hp))), fun post _ hp => HY post (fun z => absurd z (by decide)) (fun _ => br_f (by decide) (br_f (by decide) (br_t rfl (br_f h1 (hp (by decide))))))⟩
end
theorem i_vc_begin {k : Nat} {u : SX} {v : SY} (I : i_Rel k u v) (hk : k + 5 ≤ 2562) (v1 : Int32) (v2 : Int32) (v3 : Int32) : wpX_begin (fun r u' => wpY_begin (fun r' v' => r' = r ∧ i_Rel (k + 5) u' v') v v1 v2 (lw_bz v3)) u v1 v2 (lw_bz v3) := by
  refine zz_el (M := fun u v => wpX_begin (fun r u' => wpY_begin (fun r' v' => r' = r ∧ i_Rel (k + 5) u' v') v v1 v2 (lw_bz v3)) u v1 v2 (lw_bz v3)) I ?_
  intro P Q op wh pn nx cu ou dn rk sn sc aC aD aS aI aO aA aR aG aT aJ aK bC bB bV bD bR F
  have hS := F.1
  obtain ⟨hP2, hP6, hQ2, hQ12, hC, hD, hT, hA, hR⟩ := hS
  have hna : narrow .boolean (.int (lw_bz v3)) = .int (lw_bz v3) := lw_bz_n v3
  have hfi : fits .boolean (.int (lw_bz v3)) = true := by rcases lw_bz_01 v3 with e | e <;> rw [e] <;> rfl
  generalize lw_bz v3 = t at *
  by_cases hd : dn = 0
  · have HB : (v1 < 1 ∨ 4 < v1 ∨ v2 < 0 ∨ ¬ v2 < nI P) → wpY_begin (fun r' v' => r' = -9 ∧ i_Rel (k + 5) (nI P, nI Q, op, wh, pn, nx, cu, ou, dn, rk, sn, sc, aC, aD, aS, aI, aO, aA, aR, aG, aT, aJ, aK) v') (nI P, nI Q, op, wh, nx, cu, sn, sc, ou, rk, pn, dn, bC, bB, bV, bD, aS, aI, aO, aA, bR) v1 v2 t := fun hb =>
      yy_begA (yy_refB hd (by decide) (br_f (by decide) (And.intro rfl (zz_in F)))) (fun a b c d => absurd hb (fun z => z.elim a (fun z => z.elim b (fun z => z.elim c (fun z => z d)))))
    refine br_t hd (br_c (fun z => HB (Or.inl z)) (fun h1 => br_c (fun z => HB (Or.inr (Or.inl z))) (fun h4 => ?_)))
    rcases pk_ix v2 (n := P) (by omega) with h | h | ⟨j, hj, rfl⟩
    · exact xx_isPack0 (Or.inl h) (br_t rfl (HB (Or.inr (Or.inr (Or.inl h)))))
    · exact xx_isPack0 (Or.inr h) (br_t rfl (HB (Or.inr (Or.inr (Or.inr (Int32.not_lt.mpr h))))))
    · have ho4 : v1 = 1 ∨ v1 = 2 ∨ v1 = 3 ∨ v1 = 4 := by
        have h0 : ¬ v1 < 0 := fun z => h1 (Int32.lt_trans z (by decide))
        obtain ⟨i, hi, rfl⟩ := gt_n h0 4 (by decide) h4
        have h1' : 1 ≤ i := by
          refine Nat.le_of_not_lt (fun z => h1 ?_)
          obtain rfl : i = 0 := by omega
          decide
        have hi' : i = 1 ∨ i = 2 ∨ i = 3 ∨ i = 4 := by omega
        rcases hi' with rfl | rfl | rfl | rfl <;> decide
      have HY : ∀ post : Int32 → SY → Prop, wY_begin_28 post v1 (nI j) t 0 (nI P) (nI Q) op wh nx cu sn sc ou rk pn dn bC bB bV bD aS aI aO aA bR → wpY_begin post (nI P, nI Q, op, wh, nx, cu, sn, sc, ou, rk, pn, dn, bC, bB, bV, bD, aS, aI, aO, aA, bR) v1 (nI j) t := fun post H => br_f h1 (br_f h4 (br_f (nI_pos (by omega)) (br_t (nI_lt hj (by omega)) H)))
      refine xx_isPack1 hj hP6 (br_f (by decide) (br_c (fun ho => ?_) (fun ho => HY _ (yy_refO hd ho (br_f (by decide) (And.intro rfl (zz_in F)))))))
      obtain ⟨r, hrX, hrY⟩ := lk_refuse (P := P) (Q := Q) (j := j) (o := v1) (t := t) (op := op) (wh := wh) (pn := pn) (nx := nx) (cu := cu) (ou := ou) (dn := dn) (rk := rk) (sn := sn) (sc := sc) (aC := aC) (aD := aD) (aI := aI) (aO := aO) (aA := aA) (aG := aG) (aT := aT) (aJ := aJ) (aK := aK) (bC := bC) (bB := bB) (bV := bV) (bD := bD) ho4 hj hP6 hT hR hd ho
      refine hrX _ (br_c (fun hr0 => ⟨hna, hfi, ?_⟩) (fun hr0 => HY _ (hrY _ (fun z => absurd z hr0) (fun _ => And.intro rfl (zz_in F)))))
      obtain ⟨k', r', hpos, hgX, hgY⟩ := bg_go (P := P) (j := j) (o := v1) (t := t) (ou := ou) (dn := dn) (rk := rk) (sn := sn) (sc := sc) (aS := aS) (aI := aI) (aO := aO) (aA := aA) (aR := aR) (aG := aG) (aT := aT) (aJ := aJ) (aK := aK) (bB := bB) (bV := bV) (bR := bR) ho4 (by omega) hQ12 hD hC
      have F' := rl_begin (op' := v1) F hj hpos
      obtain ⟨_, _, en, ec, _, _, _⟩ := rl_wZ F.2 ho
      subst en ec
      refine hgX _ (HY _ (hrY _ (fun _ => ?_) (fun z => absurd hr0 z)))
      exact br_t (nI_le (Nat.le_refl P) (by omega)) ⟨hna, hfi, hgY _ (And.intro rfl (zz_in F'))⟩
  · have H : ∀ z : Int32, wY_begin_28 (fun r' v' => r' = -2 ∧ i_Rel (k + 5) (nI P, nI Q, op, wh, pn, nx, cu, ou, dn, rk, sn, sc, aC, aD, aS, aI, aO, aA, aR, aG, aT, aJ, aK) v') v1 v2 t z (nI P) (nI Q) op wh nx cu sn sc ou rk pn dn bC bB bV bD aS aI aO aA bR := fun z => yy_refD hd (br_f (by decide) (And.intro rfl (zz_in F)))
    exact br_f hd (yy_begA (H 1) (fun _ _ _ _ => H 0))
end
section
/-! ===== abort ===== -/
section
variable {P Q : Nat} {op wh pn nx cu ou dn rk sn sc rj : Int32} {aC aD aS aI aO aA aR aG aT aJ aK bC bB bV bD bR : Nat → Int32}
theorem xx_may0 {post : Int32 → Prop} (h3 : op = 3 → ¬ nx = 1) (h1 : op = 1 → (nx < 1 ∨ 6 < nx)) (hp : post 0) : wpX_mayAbort post (nI P, nI Q, op, wh, pn, nx, cu, ou, dn, rk, sn, sc, aC, aD, aS, aI, aO, aA, aR, aG, aT, aJ, aK) :=
  br_c (fun a => br_f (h3 a) hp) (fun _ => br_c (fun b => br_c (fun _ => hp) (fun c => br_t ((h1 b).resolve_left c) hp)) (fun _ => hp))
theorem xx_may1 {post : Int32 → Prop} (h : (op = 3 ∧ nx = 1) ∨ (op = 1 ∧ ¬ nx < 1 ∧ ¬ 6 < nx)) (hp : post 1) : wpX_mayAbort post (nI P, nI Q, op, wh, pn, nx, cu, ou, dn, rk, sn, sc, aC, aD, aS, aI, aO, aA, aR, aG, aT, aJ, aK) := by
  rcases h with ⟨a, b⟩ | ⟨a, b, c⟩
  · exact br_t a (br_t b hp)
  · exact br_f (by rw [a]; decide) (br_t a (br_f b (br_f c hp)))
theorem yy_may0 {post : Int32 → SY → Prop} (hd : dn = 0) (h3 : op = 3 → ¬ nx = 1) (h1 : op = 1 → ¬ nx ≤ 6) (hp : post (-4) (nI P, nI Q, op, wh, nx, cu, sn, sc, ou, rk, pn, dn, bC, bB, bV, bD, aS, aI, aO, aA, bR)) : wpY_abort post (nI P, nI Q, op, wh, nx, cu, sn, sc, ou, rk, pn, dn, bC, bB, bV, bD, aS, aI, aO, aA, bR) := by
  have H : wY_abort_27 post (nI P) (nI Q) op wh nx cu sn sc ou rk pn dn bC bB bV bD aS aI aO aA bR := br_c (fun a => br_f (h3 a) hp) (fun _ => hp)
  exact br_t hd (br_c (fun a => br_f (h1 a) H) (fun _ => H))
theorem yy_may1 {post : Int32 → SY → Prop} (hd : dn = 0) (h : (op = 3 ∧ nx = 1) ∨ (op = 1 ∧ nx ≤ 6)) (hp : wY_abort_46 post (nI P) (nI Q) op wh nx cu sn sc ou rk pn dn bC bB bV bD aS aI aO aA bR) : wpY_abort post (nI P, nI Q, op, wh, nx, cu, sn, sc, ou, rk, pn, dn, bC, bB, bV, bD, aS, aI, aO, aA, bR) := by
  rcases h with ⟨a, b⟩ | ⟨a, b⟩
  · exact br_t hd (br_f (by rw [a]; decide) (br_t a (br_t b hp)))
  · exact br_t hd (br_t a (br_t b hp))
theorem yy_ab116 {post : Int32 → SY → Prop} (h : post 2 (nI P, nI Q, op, wh, nx, cu, nx, cu, ou, 0, pn, dn, bC, bB, cp_f bC bV 0 120, bD, aS, aI, aO, aA, bR)) : wY_abort_116 post (nI P) (nI Q) op wh nx cu sn sc ou rk pn dn bC bB bV bD aS aI aO aA bR := by
  unfold wY_abort_116
  exact yy_save h
theorem xx_ab91 {post : Int32 → SX → Prop} (h : post 2 (nI P, nI Q, op, wh, pn, nx, cu, ou, dn, 0, nx, cu, aC, aD, aS, aI, aO, aA, aR, aG, aT, aJ, aK)) : wX_abort_91 post (nI P) (nI Q) op wh pn nx cu ou dn rk sn sc aC aD aS aI aO aA aR aG aT aJ aK := h
theorem xx_ab56 {post : Int32 → SX → Prop} (h : post 2 (nI P, nI Q, op, wh, pn, 14, -1, ou, dn, 0, 14, -1, aC, aD, aS, aI, aO, aA, aR, aG, aT, aJ, aK)) : wX_abort_56 post (nI P) (nI Q) op wh pn nx cu ou dn rk sn sc aC aD aS aI aO aA aR aG aT aJ aK := h
theorem yy_ab62 {post : Int32 → SY → Prop} (h : post 2 (nI P, nI Q, op, wh, 14, -1, 14, -1, ou, 0, pn, dn, bC, bB, cp_f bC bV 0 120, bD, aS, aI, aO, aA, bR)) : wY_abort_62 post (nI P) (nI Q) op wh nx cu sn sc ou rk pn dn bC bB bV bD aS aI aO aA bR := by
  unfold wY_abort_62
  exact yy_go (yy_ab116 h)
end
theorem i_vc_abort {k : Nat} {u : SX} {v : SY} (I : i_Rel k u v) (hk : k + 5 ≤ 2562) : wpX_abort (fun r u' => wpY_abort (fun r' v' => r' = r ∧ i_Rel (k + 5) u' v') v) u := by
  refine zz_el (M := fun u v => wpX_abort (fun r u' => wpY_abort (fun r' v' => r' = r ∧ i_Rel (k + 5) u' v') v) u) I ?_
  intro P Q op wh pn nx cu ou dn rk sn sc aC aD aS aI aO aA aR aG aT aJ aK bC bB bV bD bR F
  have hS := F.1
  obtain ⟨hP2, hP6, hQ2, hQ12, hC, hD, hT, hA, hR⟩ := hS
  by_cases hd : dn = 0
  · by_cases ho : op = 0
    · subst ho
      exact br_t hd (xx_may0 (fun z => absurd z (by decide)) (fun z => absurd z (by decide)) (br_t rfl (yy_may0 hd (fun z => absurd z (by decide)) (fun z => absurd z (by decide)) (And.intro rfl (zz_in F)))))
    · obtain ⟨w, r, aB, hw, hwh, hp, hs, hr, hb, hj, hB, hV, hO⟩ := rl_wY F.2 ho
      have FM : ∀ {a b : Int32}, rl_Pos Q op a b → _ := fun {a b} h => rl_move (nx' := a) (cu' := b) F ho h
      obtain ⟨hal, hcu⟩ := hp
      subst hwh
      have P14 : ∀ {o : Int32}, (o = 1 ∨ o = 3) → rl_Pos Q o 14 (-1) := fun {o} h => ⟨by rcases h with rfl | rfl <;> unfold rl_al <;> decide, Or.inr ⟨by unfold rl_fi; decide, rfl⟩⟩
      have P13 : rl_Pos Q 1 13 (-1) := ⟨by unfold rl_al; decide, Or.inr ⟨by unfold rl_fi; decide, rfl⟩⟩
      have P11 : rl_Pos Q 1 11 (-1) := ⟨by unfold rl_al; decide, Or.inr ⟨by unfold rl_fi; decide, rfl⟩⟩
      rcases hal with ⟨rfl, h⟩ | ⟨rfl, h⟩ | ⟨rfl, h⟩ | ⟨rfl, h⟩
      · rcases h with rfl | rfl | rfl | rfl | rfl | rfl | h
        · exact br_t hd (xx_may1 (Or.inr ⟨rfl, by decide, by decide⟩) (br_f (by decide) (br_f (by decide) (br_f (by decide) (br_t rfl (xx_ab56 (yy_may1 hd (Or.inr ⟨rfl, by decide⟩) (br_t rfl (yy_ab62 (And.intro rfl (zz_in (FM (P14 (Or.inl rfl))))))))))))))
        · exact br_t hd (xx_may1 (Or.inr ⟨rfl, by decide, by decide⟩) (br_f (by decide) (br_f (by decide) (br_f (by decide) (br_f (by decide) (br_t rfl (xx_ab56 (yy_may1 hd (Or.inr ⟨rfl, by decide⟩) (br_f (by decide) (br_t rfl (yy_ab62 (And.intro rfl (zz_in (FM (P14 (Or.inl rfl))))))))))))))))
        · exact br_t hd (xx_may1 (Or.inr ⟨rfl, by decide, by decide⟩) (br_f (by decide) (br_f (by decide) (br_f (by decide) (br_f (by decide) (br_f (by decide) (br_t rfl (xx_moveTo (xx_ab91 (yy_may1 hd (Or.inr ⟨rfl, by decide⟩) (br_f (by decide) (br_f (by decide) (br_t rfl (yy_go (yy_ab116 (And.intro rfl (zz_in (FM P13))))))))))))))))))
        · rcases hcu with ⟨_, c, hc, rfl⟩ | ⟨z, _⟩
          · exact br_t hd (xx_may1 (Or.inr ⟨rfl, by decide, by decide⟩) (br_f (by decide) (br_f (by decide) (br_f (by decide) (br_f (by decide) (br_f (by decide) (br_f (by decide) (br_t rfl (xx_rb (by omega) (by omega) (xx_ab91 (yy_may1 hd (Or.inr ⟨rfl, by decide⟩) (br_f (by decide) (br_f (by decide) (br_f (by decide) (br_t rfl (yy_rb (by omega) (by omega) (yy_ab116 (And.intro rfl (zz_in (FM (rb_pos (by omega) hQ12)))))))))))))))))))))
          · exact absurd (by unfold rl_fi; decide) z
        · exact br_t hd (xx_may1 (Or.inr ⟨rfl, by decide, by decide⟩) (br_f (by decide) (br_f (by decide) (br_t (by decide) (xx_moveTo (xx_ab91 (yy_may1 hd (Or.inr ⟨rfl, by decide⟩) (br_f (by decide) (br_f (by decide) (br_f (by decide) (br_f (by decide) (yy_go (yy_ab116 (And.intro rfl (zz_in (FM P11))))))))))))))))
        · exact br_t hd (xx_may1 (Or.inr ⟨rfl, by decide, by decide⟩) (br_f (by decide) (br_f (by decide) (br_t (by decide) (xx_moveTo (xx_ab91 (yy_may1 hd (Or.inr ⟨rfl, by decide⟩) (br_f (by decide) (br_f (by decide) (br_f (by decide) (br_f (by decide) (yy_go (yy_ab116 (And.intro rfl (zz_in (FM P11))))))))))))))))
        · have h6 : 6 < nx := by rcases h with rfl | rfl | rfl | rfl | rfl | rfl <;> decide
          exact br_t hd (xx_may0 (fun z => absurd z (by decide)) (fun _ => Or.inr h6) (br_t rfl (yy_may0 hd (fun z => absurd z (by decide)) (fun _ => Int32.not_le.mpr h6) (And.intro rfl (zz_in F)))))
      · exact br_t hd (xx_may0 (fun z => absurd z (by decide)) (fun z => absurd z (by decide)) (br_t rfl (yy_may0 hd (fun z => absurd z (by decide)) (fun z => absurd z (by decide)) (And.intro rfl (zz_in F)))))
      · rcases h with rfl | h
        · exact br_t hd (xx_may1 (Or.inl ⟨rfl, rfl⟩) (br_f (by decide) (br_f (by decide) (br_f (by decide) (br_t rfl (xx_ab56 (yy_may1 hd (Or.inl ⟨rfl, rfl⟩) (br_t rfl (yy_ab62 (And.intro rfl (zz_in (FM (P14 (Or.inr rfl))))))))))))))
        · have h1 : ¬ nx = 1 := by rcases h with rfl | rfl | rfl | rfl <;> decide
          exact br_t hd (xx_may0 (fun _ => h1) (fun z => absurd z (by decide)) (br_t rfl (yy_may0 hd (fun _ => h1) (fun z => absurd z (by decide)) (And.intro rfl (zz_in F)))))
      · exact br_t hd (xx_may0 (fun z => absurd z (by decide)) (fun z => absurd z (by decide)) (br_t rfl (yy_may0 hd (fun z => absurd z (by decide)) (fun z => absurd z (by decide)) (And.intro rfl (zz_in F)))))
  · exact br_f hd (br_f hd (And.intro rfl (zz_in F)))
end
section
/-! ===== scripts: what a step comes to, both sides ===== -/
theorem sc_fw {op nx : Int32} (h : rl_al op nx) (nf : ¬ rl_fi nx) (n10 : ¬ nx = 10) (n11 : ¬ nx = 11) (n13 : ¬ nx = 13) (n14 : ¬ nx = 14) : fw_al op nx ∧ nx < 11 := by
  rcases h with ⟨rfl, h⟩ | ⟨rfl, h⟩ | ⟨rfl, h⟩ | ⟨rfl, h⟩
  · rcases h with rfl | rfl | rfl | rfl | rfl | rfl | rfl | rfl | rfl | rfl | rfl | rfl <;> first | exact absurd rfl n10 | exact absurd rfl n11 | exact absurd rfl n13 | exact absurd rfl n14 | exact absurd (by unfold rl_fi; decide) nf | exact ⟨by unfold fw_al; decide, by decide⟩
  · rcases h with rfl | rfl | rfl <;> first | exact absurd rfl n10 | exact absurd (by unfold rl_fi; decide) nf | exact ⟨by unfold fw_al; decide, by decide⟩
  · rcases h with rfl | rfl | rfl | rfl | rfl <;> first | exact absurd rfl n10 | exact absurd rfl n14 | exact absurd (by unfold rl_fi; decide) nf | exact ⟨by unfold fw_al; decide, by decide⟩
  · rcases h with rfl | rfl | rfl <;> first | exact absurd rfl n10 | exact absurd (by unfold rl_fi; decide) nf | exact ⟨by unfold fw_al; decide, by decide⟩
theorem rl_al11 {op : Int32} (h : rl_al op 11) : op = 1 := by
  rcases h with ⟨h, _⟩ | ⟨_, h⟩ | ⟨_, h⟩ | ⟨_, h⟩
  · exact h
  · exact absurd h (by decide)
  · exact absurd h (by decide)
  · exact absurd h (by decide)
theorem rl_al13 {op : Int32} (h : rl_al op 13) : op = 1 := by
  rcases h with ⟨h, _⟩ | ⟨_, h⟩ | ⟨_, h⟩ | ⟨_, h⟩
  · exact h
  · exact absurd h (by decide)
  · exact absurd h (by decide)
  · exact absurd h (by decide)
theorem rl_al12 {op : Int32} (h : rl_al op 12) : op = 1 := by
  rcases h with ⟨h, _⟩ | ⟨_, h⟩ | ⟨_, h⟩ | ⟨_, h⟩
  · exact h
  · exact absurd h (by decide)
  · exact absurd h (by decide)
  · exact absurd h (by decide)
theorem rl_al4 {op : Int32} (h : rl_al op 4) : op = 1 := by
  rcases h with ⟨h, _⟩ | ⟨_, h⟩ | ⟨_, h⟩ | ⟨_, h⟩
  · exact h
  · exact absurd h (by decide)
  · exact absurd h (by decide)
  · exact absurd h (by decide)
theorem rl_scr {Q : Nat} {op nx : Int32} (h : rl_al op nx) (nf : ¬ rl_fi nx) : rl_Pos Q op nx (-1) := ⟨h, Or.inr ⟨nf, rfl⟩⟩
section
variable {P Q : Nat} {op wh pn nx cu ou dn rk sn sc rj : Int32} {aC aD aS aI aO aA aR aG aT aJ aK bC bB bV bD bR : Nat → Int32}
theorem yy_end4 {post : SY → Prop} {w : Nat} (hw : w < 6) (hp : post (nI P, nI Q, 0, -1, 0, -1, sn, sc, 4, rk, 0, dn, bC, bB, bV, bD, upd aS w (aS w), aI, aO, aA, bR)) : wY_goOn_90 post (nI P) (nI Q) op (nI w) nx cu sn sc ou rk pn dn bC bB bV bD aS aI aO aA bR := by
  unfold wY_goOn_90
  rw [nI_clamp (n := w) (by omega)]
  exact ⟨vp_in_nI hw (by decide), yy_end hw hp⟩
/-- a script went well -/
theorem sc_well {w : Nat} (hw : w < 6) (hQ : Q ≤ 12) (hD : rl_D aD bD) (hT : rl_T aS) (hE : cl_E aC bC) (h : rl_al op nx) (nf : ¬ rl_fi nx) (n10 : ¬ nx = 10) :
    (∃ a b : Int32, rl_Pos Q op a b ∧ (∀ post : Int32 → SX → Prop, post 1 (nI P, nI Q, op, nI w, pn, a, b, ou, dn, rk, sn, sc, aC, aD, aS, aI, aO, aA, aR, aG, aT, aJ, aK) → wpX_scriptWell post (nI P, nI Q, op, nI w, pn, nx, -1, ou, dn, rk, sn, sc, aC, aD, aS, aI, aO, aA, aR, aG, aT, aJ, aK)) ∧ (∀ post : SY → Prop, post (nI P, nI Q, op, nI w, a, b, sn, sc, ou, rk, pn, dn, bC, bB, bV, bD, aS, aI, aO, aA, bR) → wpY_goOn post (nI P, nI Q, op, nI w, nx, -1, sn, sc, ou, rk, pn, dn, bC, bB, bV, bD, aS, aI, aO, aA, bR))) ∨
    (∃ (o : Int32) (s : Nat), s ≤ 5 ∧ (∀ post : Int32 → SX → Prop, post o (nI P, nI Q, 0, -1, 0, 0, -1, o, dn, rk, sn, sc, aC, aD, upd aS w (nI s), aI, aO, aA, aR, aG, aT, aJ, aK) → wpX_scriptWell post (nI P, nI Q, op, nI w, pn, nx, -1, ou, dn, rk, sn, sc, aC, aD, aS, aI, aO, aA, aR, aG, aT, aJ, aK)) ∧ (∀ post : SY → Prop, post (nI P, nI Q, 0, -1, 0, -1, sn, sc, o, rk, 0, dn, bC, bB, bV, bD, upd aS w (nI s), aI, aO, aA, bR) → wpY_goOn post (nI P, nI Q, op, nI w, nx, -1, sn, sc, ou, rk, pn, dn, bC, bB, bV, bD, aS, aI, aO, aA, bR))) := by
  obtain ⟨s, hs, es⟩ := hT w hw
  have eS : upd aS w (nI s) = aS := by rw [← es]; exact up_same aS w
  have eT : upd aS w (aS w) = upd aS w (nI s) := by rw [es]
  by_cases n11 : nx = 11
  · subst n11
    obtain rfl := rl_al11 h
    exact Or.inl ⟨_, _, rb_pos (a := aA) (b := 12 * w) (Nat.le_refl Q) hQ, fun post hp => br_f (by decide) (br_f (by decide) (br_t rfl (xx_rb hw hQ hp))), fun post hp => br_t rfl (yy_rb hw hQ hp)⟩
  · by_cases n13 : nx = 13
    · subst n13
      obtain rfl := rl_al13 h
      by_cases hu : aS w < 3
      · refine Or.inr ⟨4, s, hs, fun post hp => ?_, fun post hp => ?_⟩
        · rw [eS] at hp
          exact br_f (by decide) (br_f (by decide) (br_f (by decide) (br_f (by decide) (br_t rfl (xx_upg hw (fun _ => br_t rfl (xx_end hp)) (fun z => absurd hu z))))))
        · rw [← eT] at hp
          refine br_f (by decide) (br_f (by decide) (br_t rfl ⟨vp_in_nI hw (by decide), ?_⟩))
          rw [nI_clamp (n := w) (by omega)]
          exact br_t hu (br_t rfl (yy_end4 hw hp))
      · refine Or.inl ⟨14, -1, rl_scr (by unfold rl_al; decide) (by unfold rl_fi; decide), fun post hp => ?_, fun post hp => ?_⟩
        · exact br_f (by decide) (br_f (by decide) (br_f (by decide) (br_f (by decide) (br_t rfl (xx_upg hw (fun z => absurd z hu) (fun _ => br_f (by decide) (xx_moveTo hp)))))))
        · refine br_f (by decide) (br_f (by decide) (br_t rfl ⟨vp_in_nI hw (by decide), ?_⟩))
          rw [nI_clamp (n := w) (by omega)]
          exact br_f hu (yy_go hp)
    · by_cases n14 : nx = 14
      · subst n14
        refine Or.inr ⟨4, s, hs, fun post hp => ?_, fun post hp => ?_⟩
        · rw [eS] at hp
          exact br_f (by decide) (br_f (by decide) (br_f (by decide) (br_f (by decide) (br_f (by decide) (br_t rfl (xx_end hp))))))
        · rw [← eT] at hp
          exact br_f (by decide) (br_f (by decide) (br_f (by decide) (br_f (by decide) (br_t rfl (yy_end4 hw hp)))))
      · obtain ⟨ha, hlt⟩ := sc_fw h nf n10 n11 n13 n14
        obtain ⟨k1, ha1, _, hX1, hY1⟩ := lk_fo (P := P) (Q := Q) (pn := pn) (nx := nx) (cu := -1) (ou := ou) (dn := dn) (rk := rk) (rj := rk) (sn := sn) (sc := sc) (aC := aC) (aD := aD) (aS := aS) (aI := aI) (aO := aO) (aA := aA) (aR := aR) (aG := aG) (aT := aT) (aJ := aJ) (aK := aK) (bC := bC) (bB := bB) (bV := bV) (bD := bD) (bR := bR) hw ha n10
        obtain ⟨k', r', hat, hX, hY⟩ := lk_fwS (P := P) (kd := nx) (pn := pn) (ou := ou) (dn := dn) (rk := rk) (rj := rk) (sn := sn) (sc := sc) (aS := aS) (aI := aI) (aO := aO) (aA := aA) (aR := aR) (aG := aG) (aT := aT) (aJ := aJ) (aK := aK) (bB := bB) (bV := bV) (bR := bR) hw hQ hD hE ha1 hY1
        have n12 : ¬ nx = 12 := fun z => nf (Or.inr (Or.inr (Or.inr z)))
        exact Or.inl ⟨k', r', fw_pos hat, fun post hp => br_t hlt (hX1 _ (hX _ hp)), fun post hp => br_f n11 (br_f n12 (br_f n13 (br_f n13 (br_f n14 (br_f n10 (hY _ hp))))))⟩
theorem xx_brk {post : Int32 → SX → Prop} {w : Nat} {s : Int32} (hw : w < 6) (hp : post 5 (nI P, nI Q, 0, -1, 0, 0, -1, 5, dn, rk, sn, sc, aC, aD, upd aS w s, aI, aO, aA, aR, aG, aT, aJ, aK)) : wpX_breakOff post (nI P, nI Q, op, nI w, pn, nx, cu, ou, dn, rk, sn, sc, aC, aD, aS, aI, aO, aA, aR, aG, aT, aJ, aK) s := by
  unfold wpX_breakOff
  dsimp only
  rw [nI_clamp (n := w) (by omega)]
  exact ⟨vp_in_nI hw (by decide), nm_e (xx_end hp)⟩
theorem xx_sf131 {post : Int32 → SX → Prop} {w : Nat} (hw : w < 6) (hp : post 5 (nI P, nI Q, 0, -1, 0, 0, -1, 5, dn, rk, sn, sc, aC, aD, upd aS w 2, aI, aO, aA, aR, aG, aT, aJ, aK)) : wX_scriptFailed_131 post (nI P) (nI Q) op (nI w) pn nx cu ou dn rk sn sc aC aD aS aI aO aA aR aG aT aJ aK := by
  unfold wX_scriptFailed_131
  exact xx_brk hw hp
theorem xx_sf125 {post : Int32 → SX → Prop} {w : Nat} (hw : w < 6) (hp : post 5 (nI P, nI Q, 0, -1, 0, 0, -1, 5, dn, rk, sn, sc, aC, aD, upd aS w 4, aI, aO, aA, aR, aG, aT, aJ, aK)) : wX_scriptFailed_125 post (nI P) (nI Q) op (nI w) pn nx cu ou dn rk sn sc aC aD aS aI aO aA aR aG aT aJ aK := by
  unfold wX_scriptFailed_125
  exact xx_brk hw hp
theorem xx_pf30 {post : Int32 → SX → Prop} {w : Nat} {s : Int32} (hw : w < 6) (hp : post 5 (nI P, nI Q, 0, -1, 0, 0, -1, 5, dn, rk, sn, sc, aC, aD, upd aS w s, aI, aO, aA, aR, aG, aT, aJ, aK)) : wX_postrmFailed_30 post s (nI P) (nI Q) op (nI w) pn nx cu ou dn rk sn sc aC aD aS aI aO aA aR aG aT aJ aK := by
  unfold wX_postrmFailed_30
  exact xx_brk hw hp
theorem xx_sf91 {post : Int32 → SX → Prop} {z : Int32} (hp : post 2 (nI P, nI Q, op, wh, pn, z, -1, ou, dn, rk, sn, sc, aC, aD, aS, aI, aO, aA, aR, aG, aT, aJ, aK)) : wX_scriptFailed_91 post z (nI P) (nI Q) op wh pn nx cu ou dn rk sn sc aC aD aS aI aO aA aR aG aT aJ aK := hp
theorem yy_f176 {post : SY → Prop} {w : Nat} (hw : w < 6) (hp : post (nI P, nI Q, 0, -1, 0, -1, sn, sc, 5, rk, 0, dn, bC, bB, bV, bD, upd aS w 4, aI, aO, aA, bR)) : wY_fail_176 post (nI P) (nI Q) op (nI w) nx cu sn sc ou rk pn dn bC bB bV bD aS aI aO aA bR := by
  unfold wY_fail_176
  exact yy_end hw hp
theorem yy_f41 {post : SY → Prop} (hp : post (nI P, nI Q, op, wh, 14, -1, sn, sc, ou, rk, pn, dn, bC, bB, bV, bD, aS, aI, aO, aA, bR)) : wY_fail_41 post (nI P) (nI Q) op wh nx cu sn sc ou rk pn dn bC bB bV bD aS aI aO aA bR := hp
/-- a script failed -/
theorem sc_fail {w : Nat} (hw : w < 6) (h : rl_al op nx) (nf : ¬ rl_fi nx) (n10 : ¬ nx = 10) :
    (∃ a b : Int32, rl_Pos Q op a b ∧ (∀ post : Int32 → SX → Prop, post 2 (nI P, nI Q, op, nI w, pn, a, b, ou, dn, rk, sn, sc, aC, aD, aS, aI, aO, aA, aR, aG, aT, aJ, aK) → wpX_scriptFailed post (nI P, nI Q, op, nI w, pn, nx, -1, ou, dn, rk, sn, sc, aC, aD, aS, aI, aO, aA, aR, aG, aT, aJ, aK)) ∧ (∀ post : SY → Prop, post (nI P, nI Q, op, nI w, a, b, sn, sc, ou, rk, pn, dn, bC, bB, bV, bD, aS, aI, aO, aA, bR) → wpY_fail post (nI P, nI Q, op, nI w, nx, -1, sn, sc, ou, rk, pn, dn, bC, bB, bV, bD, aS, aI, aO, aA, bR))) ∨
    (∃ (o : Int32) (s : Nat), s ≤ 5 ∧ (∀ post : Int32 → SX → Prop, post o (nI P, nI Q, 0, -1, 0, 0, -1, o, dn, rk, sn, sc, aC, aD, upd aS w (nI s), aI, aO, aA, aR, aG, aT, aJ, aK) → wpX_scriptFailed post (nI P, nI Q, op, nI w, pn, nx, -1, ou, dn, rk, sn, sc, aC, aD, aS, aI, aO, aA, aR, aG, aT, aJ, aK)) ∧ (∀ post : SY → Prop, post (nI P, nI Q, 0, -1, 0, -1, sn, sc, o, rk, 0, dn, bC, bB, bV, bD, upd aS w (nI s), aI, aO, aA, bR) → wpY_fail post (nI P, nI Q, op, nI w, nx, -1, sn, sc, ou, rk, pn, dn, bC, bB, bV, bD, aS, aI, aO, aA, bR))) := by
  have pos : ∀ {o a : Int32}, rl_al o a → ¬ rl_fi a → rl_Pos Q o a (-1) := fun a b => rl_scr a b
  rcases h with ⟨rfl, h⟩ | ⟨rfl, h⟩ | ⟨rfl, h⟩ | ⟨rfl, h⟩
  · rcases h with rfl | rfl | rfl | rfl | rfl | rfl | rfl | rfl | rfl | rfl | rfl | rfl
    · exact Or.inl ⟨2, -1, pos (by unfold rl_al; decide) (by unfold rl_fi; decide), fun post hp => br_f (by decide) (br_f (by decide) (br_t rfl (br_t rfl (xx_sf91 hp)))), fun post hp => br_t rfl (br_t rfl (yy_go hp))⟩
    · exact Or.inl ⟨14, -1, pos (by unfold rl_al; decide) (by unfold rl_fi; decide), fun post hp => br_f (by decide) (br_f (by decide) (br_f (by decide) (br_t rfl (xx_moveTo hp)))), fun post hp => br_f (by decide) (br_f (by decide) (br_t rfl (yy_f41 hp)))⟩
    · exact Or.inl ⟨13, -1, pos (by unfold rl_al; decide) (by unfold rl_fi; decide), fun post hp => br_f (by decide) (br_f (by decide) (br_f (by decide) (br_f (by decide) (br_t rfl (xx_moveTo hp))))), fun post hp => br_f (by decide) (br_f (by decide) (br_f (by decide) (br_t rfl (yy_go hp))))⟩
    · exact absurd (by unfold rl_fi; decide) nf
    · exact Or.inl ⟨6, -1, pos (by unfold rl_al; decide) (by unfold rl_fi; decide), fun post hp => br_f (by decide) (br_f (by decide) (br_f (by decide) (br_f (by decide) (br_f (by decide) (br_f (by decide) (br_t rfl (br_t rfl (xx_moveTo hp)))))))), fun post hp => br_f (by decide) (br_f (by decide) (br_f (by decide) (br_f (by decide) (br_f (by decide) (br_t rfl (br_t rfl (yy_go hp)))))))⟩
    · exact Or.inl ⟨11, -1, pos (by unfold rl_al; decide) (by unfold rl_fi; decide), fun post hp => br_f (by decide) (br_f (by decide) (br_f (by decide) (br_f (by decide) (br_f (by decide) (br_f (by decide) (br_f (by decide) (br_t rfl (xx_moveTo hp)))))))), fun post hp => br_f (by decide) (br_f (by decide) (br_f (by decide) (br_f (by decide) (br_f (by decide) (br_f (by decide) (br_f (by decide) (br_t rfl (yy_go hp))))))))⟩
    · exact absurd (by unfold rl_fi; decide) nf
    · exact absurd rfl n10
    · exact Or.inr ⟨5, 2, by decide, fun post hp => br_f (by decide) (br_f (by decide) (br_f (by decide) (br_f (by decide) (br_f (by decide) (br_f (by decide) (br_f (by decide) (br_f (by decide) (br_f (by decide) (br_f (by decide) (br_f (by decide) (br_f (by decide) (br_t rfl (xx_sf131 hw hp))))))))))))), fun post hp => br_f (by decide) (br_f (by decide) (br_f (by decide) (br_f (by decide) (br_f (by decide) (br_f (by decide) (br_f (by decide) (br_f (by decide) (br_f (by decide) (br_f (by decide) (yy_end hw hp))))))))))⟩
    · exact absurd (by unfold rl_fi; decide) nf
    · exact Or.inr ⟨5, 2, by decide, fun post hp => br_f (by decide) (br_f (by decide) (br_f (by decide) (br_f (by decide) (br_f (by decide) (br_f (by decide) (br_f (by decide) (br_f (by decide) (br_f (by decide) (br_f (by decide) (br_f (by decide) (br_f (by decide) (br_f (by decide) (br_f (by decide) (br_t rfl (xx_sf131 hw hp))))))))))))))), fun post hp => br_f (by decide) (br_f (by decide) (br_f (by decide) (br_f (by decide) (br_f (by decide) (br_f (by decide) (br_f (by decide) (br_f (by decide) (br_f (by decide) (br_f (by decide) (yy_end hw hp))))))))))⟩
    · exact Or.inr ⟨5, 4, by decide, fun post hp => br_f (by decide) (br_f (by decide) (br_f (by decide) (br_f (by decide) (br_f (by decide) (br_f (by decide) (br_f (by decide) (br_f (by decide) (br_f (by decide) (br_f (by decide) (br_f (by decide) (br_f (by decide) (br_f (by decide) (br_f (by decide) (br_f (by decide) (br_t rfl (xx_sf125 hw hp)))))))))))))))), fun post hp => br_f (by decide) (br_f (by decide) (br_f (by decide) (br_f (by decide) (br_f (by decide) (br_f (by decide) (br_f (by decide) (br_f (by decide) (br_f (by decide) (br_t rfl (yy_f176 hw hp))))))))))⟩
  · rcases h with rfl | rfl | rfl
    · exact absurd (by unfold rl_fi; decide) nf
    · exact Or.inr ⟨5, 4, by decide, fun post hp => br_f (by decide) (br_f (by decide) (br_f (by decide) (br_f (by decide) (br_f (by decide) (br_f (by decide) (br_f (by decide) (br_f (by decide) (br_f (by decide) (br_f (by decide) (br_t rfl (xx_sf125 hw hp))))))))))), fun post hp => br_f (by decide) (br_f (by decide) (br_f (by decide) (br_f (by decide) (br_f (by decide) (br_f (by decide) (br_f (by decide) (br_f (by decide) (br_t rfl (yy_f176 hw hp)))))))))⟩
    · exact absurd rfl n10
  · rcases h with rfl | rfl | rfl | rfl | rfl
    · exact Or.inl ⟨14, -1, pos (by unfold rl_al; decide) (by unfold rl_fi; decide), fun post hp => br_f (by decide) (br_f (by decide) (br_t rfl (br_f (by decide) (xx_sf91 hp)))), fun post hp => br_t rfl (br_f (by decide) (br_t rfl (yy_f41 hp)))⟩
    · exact Or.inr ⟨5, 2, by decide, fun post hp => br_f (by decide) (br_f (by decide) (br_f (by decide) (br_f (by decide) (br_f (by decide) (br_f (by decide) (br_t rfl (br_f (by decide) (br_t rfl (xx_pf30 hw hp))))))))), fun post hp => br_f (by decide) (br_f (by decide) (br_f (by decide) (br_f (by decide) (br_f (by decide) (br_t rfl (br_f (by decide) (br_t rfl (br_f (by decide) (br_f (by decide) (br_f (by decide) (br_f (by decide) (yy_end hw hp))))))))))))⟩
    · exact absurd (by unfold rl_fi; decide) nf
    · exact absurd rfl n10
    · exact Or.inr ⟨5, 4, by decide, fun post hp => br_f (by decide) (br_f (by decide) (br_f (by decide) (br_f (by decide) (br_f (by decide) (br_f (by decide) (br_f (by decide) (br_f (by decide) (br_f (by decide) (br_f (by decide) (br_f (by decide) (br_f (by decide) (br_f (by decide) (br_f (by decide) (br_f (by decide) (br_t rfl (xx_sf125 hw hp)))))))))))))))), fun post hp => br_f (by decide) (br_f (by decide) (br_f (by decide) (br_f (by decide) (br_f (by decide) (br_f (by decide) (br_f (by decide) (br_f (by decide) (br_f (by decide) (br_t rfl (yy_f176 hw hp))))))))))⟩
  · rcases h with rfl | rfl | rfl
    · exact Or.inr ⟨5, 1, by decide, fun post hp => br_f (by decide) (br_f (by decide) (br_f (by decide) (br_f (by decide) (br_f (by decide) (br_f (by decide) (br_t rfl (br_f (by decide) (br_f (by decide) (xx_pf30 hw hp))))))))), fun post hp => br_f (by decide) (br_f (by decide) (br_f (by decide) (br_f (by decide) (br_f (by decide) (br_t rfl (br_f (by decide) (br_t rfl (br_t rfl (yy_end hw hp)))))))))⟩
    · exact absurd (by unfold rl_fi; decide) nf
    · exact absurd rfl n10
/-- commit -/
theorem xx_c111 {post : Int32 → SX → Prop} (hp : post 3 (nI P, nI Q, 0, -1, 0, 0, -1, 3, dn, rk, sn, sc, aC, aD, aS, aI, aO, aA, aR, aG, aT, aJ, aK)) : wX_commit_111 post (nI P) (nI Q) op wh pn nx cu ou dn rk sn sc aC aD aS aI aO aA aR aG aT aJ aK := hp
theorem yy_c130 {post : SY → Prop} {w : Nat} {s : Int32} (hw : w < 6) (hp : post (nI P, nI Q, 0, -1, 0, -1, sn, sc, 3, rk, 0, dn, bC, bB, bV, bD, upd aS w s, aI, aO, aA, bR)) : wY_commit_130 post s 3 (nI P) (nI Q) op (nI w) nx cu sn sc ou rk pn dn bC bB bV bD aS aI aO aA bR := by
  unfold wY_commit_130
  exact yy_end hw hp
theorem sc_commit {w : Nat} (hw : w < 6) (hQ : Q ≤ 12) (hE : cl_E aC bC) (h : op = 1 ∨ op = 2 ∨ op = 3 ∨ op = 4) :
    ∃ (s : Nat) (aI' : Nat → Int32), s ≤ 5 ∧ (∀ post : Int32 → SX → Prop, post 3 (nI P, nI Q, 0, -1, 0, 0, -1, 3, dn, rk, sn, sc, aC, aD, upd aS w (nI s), aI', aO, aA, aR, aG, aT, aJ, aK) → wpX_commit post (nI P, nI Q, op, nI w, pn, nx, cu, ou, dn, rk, sn, sc, aC, aD, aS, aI, aO, aA, aR, aG, aT, aJ, aK)) ∧ (∀ post : SY → Prop, post (nI P, nI Q, 0, -1, 0, -1, sn, sc, 3, rk, 0, dn, bC, bB, bV, bD, upd aS w (nI s), aI', aO, aA, bR) → wpY_commit post (nI P, nI Q, op, nI w, nx, cu, sn, sc, ou, rk, pn, dn, bC, bB, bV, bD, aS, aI, aO, aA, bR)) := by
  have cw : (nI w).toNatClampNeg = w := nI_clamp (by omega)
  have vw : vp_in (nI w) 6 := vp_in_nI hw (by decide)
  have h2 : 2 * nI Q ≤ nI (2 * Q) := by rw [ix_2]; exact nI_le (Nat.le_refl _) (by omega)
  have HT : ∀ post : SY → Prop, wY_commit_4 post (nI P) (nI Q) op (nI w) nx cu sn sc ou rk pn dn bC bB bV bD aS aI aO aA bR 1 (cm_f aC (nI w) (2 * Q) 0) (nI (2 * Q)) → wpY_commit post (nI P, nI Q, op, nI w, nx, cu, sn, sc, ou, rk, pn, dn, bC, bB, bV, bD, aS, aI, aO, aA, bR) := fun post H => Exists.intro (2 * Q + 1) (yy_cm hQ hE (2 * Q) 0 (by omega) H)
  have H84 : ∀ (post : SY → Prop) (x z : Int32), wY_commit_85 post x (nI P) (nI Q) op (nI w) nx cu sn sc ou rk pn dn bC bB bV bD aS (upd aI w z) aO aA bR → wY_commit_84 post x z (nI w) (nI P) (nI Q) op (nI w) nx cu sn sc ou rk pn dn bC bB bV bD aS aI aO aA bR := by
    intro post x z H
    unfold wY_commit_84
    rw [cw]
    exact ⟨vw, nm_e H⟩
  rcases h with rfl | rfl | rfl | rfl
  · refine ⟨3, upd aI w (aO w), by decide, fun post hp => ?_, fun post hp => HT _ (br_t h2 (br_f (by decide) (br_t rfl ⟨vw, ?_⟩)))⟩
    · refine br_f (by decide) (br_f (by decide) (br_t rfl ?_))
      rw [cw]
      exact ⟨vw, nm_e ⟨vw, vw, nm_e (xx_c111 hp)⟩⟩
    · rw [cw]
      exact H84 _ _ _ (br_f (by decide) (br_t rfl (yy_c130 hw hp)))
  · refine ⟨5, aI, by decide, fun post hp => ?_, fun post hp => HT _ (br_t h2 (br_t rfl (br_f (by decide) (br_f (by decide) (br_t rfl (yy_c130 hw hp))))))⟩
    refine br_f (by decide) (br_f (by decide) (br_f (by decide) (br_t rfl ?_)))
    rw [cw]
    exact ⟨vw, nm_e (xx_c111 hp)⟩
  · have HX : ∀ (post : Int32 → SX → Prop) (s : Int32), post 3 (nI P, nI Q, 0, -1, 0, 0, -1, 3, dn, rk, sn, sc, aC, aD, upd aS w s, upd aI w 0, aO, aA, aR, aG, aT, aJ, aK) → wX_commit_86 post (nI w) s (nI w) (nI P) (nI Q) 3 (nI w) pn nx cu ou dn rk sn sc aC aD aS aI aO aA aR aG aT aJ aK := by
      intro post s hp
      unfold wX_commit_86
      rw [cw]
      exact ⟨vw, nm_e ⟨vw, nm_e (xx_c111 hp)⟩⟩
    have HO : ∀ post : Int32 → Prop, post (cm_f aC (nI w) (2 * Q) 0) → wpX_ownsAny post (nI P, nI Q, 3, nI w, pn, nx, cu, ou, dn, rk, sn, sc, aC, aD, aS, aI, aO, aA, aR, aG, aT, aJ, aK) (nI w) := fun post hp => Exists.intro (2 * Q + 1) (xx_own hQ (2 * Q) 0 (by omega) hp)
    rcases cm_01 aC (nI w) (2 * Q) 0 with e | e
    · refine ⟨0, upd aI w 0, by decide, fun post hp => br_f (by decide) (br_f (by decide) (br_f (by decide) (br_f (by decide) (br_t rfl (HO _ (br_t e (HX _ 0 hp))))))), fun post hp => HT _ (br_t h2 (br_f (by decide) (br_f (by decide) (H84 _ _ _ (br_t rfl (br_t e (br_f (by decide) (br_f (by decide) (yy_c130 hw hp)))))))))⟩
    · refine ⟨1, upd aI w 0, by decide, fun post hp => br_f (by decide) (br_f (by decide) (br_f (by decide) (br_f (by decide) (br_t rfl (HO _ (br_f (by rw [e]; decide) (HX _ 1 hp))))))), fun post hp => HT _ (br_t h2 (br_f (by decide) (br_f (by decide) (H84 _ _ _ (br_t rfl (br_f (by rw [e]; decide) (br_f (by decide) (br_f (by decide) (yy_c130 hw hp)))))))))⟩
  · refine ⟨0, upd aI w 0, by decide, fun post hp => ?_, fun post hp => HT _ (br_t h2 (br_f (by decide) (br_f (by decide) (H84 _ _ _ (br_f (by decide) (br_f (by decide) (br_f (by decide) (yy_c130 hw hp))))))))⟩
    refine br_f (by decide) (br_t (by decide) ?_)
    rw [cw]
    exact ⟨vw, nm_e ⟨vw, nm_e (xx_c111 hp)⟩⟩
end
end
section
/-! ===== step ===== -/
/-- how many unsaved steps, behind one more -/
theorem fw_B {Q c r : Nat} {op nx k' r' : Int32} (hQ : Q ≤ 12) (hc : c < Q) (hb : rl_B nx (nI c) r) (ha : fw_al op nx) (hn : fw_run nx) (hat : fw_at Q op k' r') (hor : (k' = nx ∧ ∃ d : Nat, c < d ∧ d < Q ∧ r' = nI d) ∨ fw_dp k' < fw_dp nx) : rl_B k' r' (r + 1) := by
  obtain ⟨b1, b2, b3⟩ := hb.2 c (by omega) rfl
  have n12 := fw_al_12 hat.1
  have hr : r ≤ 12 + c ∧ (nx = 4 ∨ nx = 8 → r ≤ c) := by
    rcases hn with h | h | h
    · have := b1 (Or.inl h)
      exact ⟨by omega, fun _ => this⟩
    · exact ⟨b2 h, fun z => absurd (h ▸ z) (by decide)⟩
    · have := b1 (Or.inr h)
      exact ⟨by omega, fun _ => this⟩
  have hr1 := hr.1
  refine ⟨by omega, fun c' hc' e => ⟨fun z => ?_, fun z => ?_, fun z => absurd z n12⟩⟩
  · rcases hor with ⟨hk, d, hd, hdQ, ed⟩ | hlt
    · have hdc : d = c' := (nI_eq (by omega) (by omega)).mp (ed.symm.trans e)
      have h2 := hr.2 (hk ▸ z)
      omega
    · exfalso
      rcases hn with h | h | h
      · subst h
        rcases z with z | z
        · subst z
          exact absurd hlt (by decide)
        · subst z
          have o1 : op = 1 := by
            rcases ha with ⟨o, _⟩ | ⟨_, o⟩ | ⟨_, o⟩ | ⟨_, o⟩
            · exact o
            · exact absurd o (by decide)
            · exact absurd o (by decide)
            · exact absurd o (by decide)
          subst o1
          rcases hat.1 with ⟨_, o⟩ | ⟨o, _⟩ | ⟨o, _⟩ | ⟨o, _⟩ <;> exact absurd o (by decide)
      · subst h
        rcases z with z | z <;> subst z <;> exact absurd hlt (by decide)
      · subst h
        rcases z with z | z <;> subst z <;> exact absurd hlt (by decide)
  · rcases hor with ⟨hk, d, hd, hdQ, ed⟩ | hlt
    · have hdc : d = c' := (nI_eq (by omega) (by omega)).mp (ed.symm.trans e)
      omega
    · rcases hn with h | h | h
      · have h2 := hr.2 (Or.inl h)
        omega
      · subst h z
        exact absurd hlt (by decide)
      · subst h z
        exact absurd hlt (by decide)
theorem fw_24 {Q c r : Nat} {nx : Int32} (hQ : Q ≤ 12) (hc : c < Q) (hb : rl_B nx (nI c) r) (hn : rl_fi nx) : r < 24 := by
  obtain ⟨b1, b2, b3⟩ := hb.2 c (by omega) rfl
  rcases hn with h | h | h | h
  · have := b1 (Or.inl h); omega
  · have := b2 h; omega
  · have := b1 (Or.inr h); omega
  · have := b3 h; omega
theorem fi_al {op nx : Int32} (h : rl_al op nx) (hn : fw_run nx) : fw_al op nx := by
  rcases hn with rfl | rfl | rfl
  · rcases h with ⟨rfl, h⟩ | ⟨rfl, h⟩ | ⟨rfl, h⟩ | ⟨rfl, h⟩
    · unfold fw_al; decide
    · exact absurd h (by decide)
    · exact absurd h (by decide)
    · exact absurd h (by decide)
  · rcases h with ⟨rfl, h⟩ | ⟨rfl, h⟩ | ⟨rfl, h⟩ | ⟨rfl, h⟩
    · unfold fw_al; decide
    · exact absurd h (by decide)
    · unfold fw_al; decide
    · unfold fw_al; decide
  · rcases h with ⟨rfl, h⟩ | ⟨rfl, h⟩ | ⟨rfl, h⟩ | ⟨rfl, h⟩
    · exact absurd h (by decide)
    · unfold fw_al; decide
    · exact absurd h (by decide)
    · exact absurd h (by decide)
section
variable {P Q : Nat} {op wh pn nx cu ou dn rk sn sc rj : Int32} {aC aD aS aI aO aA aR aG aT aJ aK bC bB bV bD bR : Nat → Int32}
theorem xx_stf {post : Int32 → SX → Prop} {t : Int32} (hd : dn = 0) (ho : ¬ op = 0) (hf : rl_fi nx) (H : wX_step_40 post t (nI P) (nI Q) op wh pn nx cu ou dn rk sn sc aC aD aS aI aO aA aR aG aT aJ aK) : wpX_step post (nI P, nI Q, op, wh, pn, nx, cu, ou, dn, rk, sn, sc, aC, aD, aS, aI, aO, aA, aR, aG, aT, aJ, aK) t := by
  refine br_t hd (br_f ho ?_)
  rcases hf with h | h | h | h
  · exact xx_run1 (Or.inl h) (br_f (by decide) H)
  · exact xx_run1 (Or.inr (Or.inl h)) (br_f (by decide) H)
  · exact xx_run1 (Or.inr (Or.inr h)) (br_f (by decide) H)
  · exact xx_run0 (by rw [h]; decide) (by rw [h]; decide) (by rw [h]; decide) (br_t rfl (br_t h H))
theorem yy_stf {post : Int32 → SY → Prop} {t : Int32} {w c : Nat} (hd : dn = 0) (ho : ¬ op = 0) (hc : c < Q) (hQ : Q ≤ 12) (hE : cl_E aC bC)
    (H : wY_step_56 post t 1 (cl_ow (aC (rl_pl Q bD (nI w) c))) (nI P) (nI Q) op (nI w) nx (nI c) sn sc ou rk pn dn bC bB bV bD aS aI aO aA bR) : wpY_step post (nI P, nI Q, op, nI w, nx, nI c, sn, sc, ou, rk, pn, dn, bC, bB, bV, bD, aS, aI, aO, aA, bR) t := by
  have hp : rl_pl Q bD (nI w) c < 24 := Nat.lt_of_lt_of_le (rl_pl_lt hc) (by omega)
  refine br_t hd (br_f ho (br_f (nI_pos (by omega)) (br_f (by decide) (yy_at (by omega) ?_))))
  rw [show (nI (5 * rl_pl Q bD (nI w) c) + 1).toNatClampNeg = 5 * rl_pl Q bD (nI w) c + 1 from ix_c hp 1 (by decide), (hE _ hp).2.1]
  exact ⟨ix_v hp 1 (by decide), H⟩
/-- may the next file be unpacked, both sides -/
theorem lk_may {w c : Nat} (hw : w < 6) (hc : c < Q) (hQ : Q ≤ 12) (hD : rl_D aD bD) (hE : cl_E aC bC) (hR : rl_R aR bR) :
    ((∀ post : Int32 → Prop, post 1 → wpX_mayUnpack post (nI P, nI Q, op, nI w, pn, nx, nI c, ou, dn, rk, sn, sc, aC, aD, aS, aI, aO, aA, aR, aG, aT, aJ, aK)) ∧ (∀ (post : Int32 → SY → Prop) (z : Int32), wY_step_147 post 1 z (nI P) (nI Q) op (nI w) 4 (nI c) sn sc ou rk pn dn bC bB bV bD aS aI aO aA bR → wY_step_102 post 1 (cl_ow (aC (rl_pl Q bD (nI w) c))) z (nI P) (nI Q) op (nI w) 4 (nI c) sn sc ou rk pn dn bC bB bV bD aS aI aO aA bR)) ∨
    ((∀ post : Int32 → Prop, post 0 → wpX_mayUnpack post (nI P, nI Q, op, nI w, pn, nx, nI c, ou, dn, rk, sn, sc, aC, aD, aS, aI, aO, aA, aR, aG, aT, aJ, aK)) ∧ (∀ (post : Int32 → SY → Prop) (z : Int32), wY_step_147 post 1 0 (nI P) (nI Q) op (nI w) 4 (nI c) sn sc ou rk pn dn bC bB bV bD aS aI aO aA bR → wY_step_102 post 1 (cl_ow (aC (rl_pl Q bD (nI w) c))) z (nI P) (nI Q) op (nI w) 4 (nI c) sn sc ou rk pn dn bC bB bV bD aS aI aO aA bR)) := by
  have hp : rl_pl Q bD (nI w) c < 24 := Nat.lt_of_lt_of_le (rl_pl_lt hc) (by omega)
  have hDc : bD c = aD c - 1 := by
    obtain ⟨e, _, ea, eb⟩ := hD c (by omega)
    rw [ea, eb]
  have HX : ∀ post : Int32 → Prop, ((cl_ow (aC (rl_pl Q bD (nI w) c)) < 0 → post 1) ∧ (¬ cl_ow (aC (rl_pl Q bD (nI w) c)) < 0 → ((cl_ow (aC (rl_pl Q bD (nI w) c)) = nI w → post 1) ∧ (¬ cl_ow (aC (rl_pl Q bD (nI w) c)) = nI w → (vp_in (nI w * 6 + cl_ow (aC (rl_pl Q bD (nI w) c))) 36 ∧ (((aR (nI w * 6 + cl_ow (aC (rl_pl Q bD (nI w) c))).toNatClampNeg &&& 2) = 0 → post 0) ∧ (¬ (aR (nI w * 6 + cl_ow (aC (rl_pl Q bD (nI w) c))).toNatClampNeg &&& 2) = 0 → post 1))))))) → wpX_mayUnpack post (nI P, nI Q, op, nI w, pn, nx, nI c, ou, dn, rk, sn, sc, aC, aD, aS, aI, aO, aA, aR, aG, aT, aJ, aK) := by
    intro post H
    unfold wpX_mayUnpack
    refine xx_place (by omega) hDc ⟨vp_in_nI hp (by decide), xx_ow ?_⟩
    rw [nI_clamp (n := rl_pl Q bD (nI w) c) (by omega)]
    exact H
  rcases cl_ow6 (hE _ hp).2.2.2.2.2 with e | ⟨o, ho, e⟩
  · refine Or.inl ⟨fun post h => HX post (br_t (by rw [e]; decide) h), fun post z h => br_t rfl (br_t (by rw [e]; decide) h)⟩
  · have h0 : ¬ cl_ow (aC (rl_pl Q bD (nI w) c)) < 0 := by rw [e]; exact nI_pos (by omega)
    by_cases hw' : cl_ow (aC (rl_pl Q bD (nI w) c)) = nI w
    · exact Or.inl ⟨fun post h => HX post (br_f h0 (br_t hw' h)), fun post z h => br_t rfl (br_f h0 (br_t hw' h))⟩
    · have ci : (nI (6 * w + o)).toNatClampNeg = 6 * w + o := nI_clamp (by omega)
      have ci2 : (nI (36 + (6 * w + o))).toNatClampNeg = 36 + (6 * w + o) := nI_clamp (by omega)
      have hrr := (rr_k1 (hR (6 * w + o) (by omega))).2
      have v1 : vp_in (nI (6 * w + o)) 36 := vp_in_nI (by omega) (by decide)
      have v2 : vp_in (nI (36 + (6 * w + o))) 72 := vp_in_nI (by omega) (by decide)
      by_cases hb : bR (36 + (6 * w + o)) = 0
      · refine Or.inr ⟨fun post h => HX post (br_f h0 (br_f hw' ?_)), fun post z h => br_t rfl (br_f h0 (br_f hw' ?_))⟩
        · rw [e, ix_6x, ci]
          exact ⟨v1, br_t (hrr.mpr hb) h⟩
        · rw [e, ix_36, ci2]
          exact ⟨v2, br_t hb h⟩
      · refine Or.inl ⟨fun post h => HX post (br_f h0 (br_f hw' ?_)), fun post z h => br_t rfl (br_f h0 (br_f hw' ?_))⟩
        · rw [e, ix_6x, ci]
          exact ⟨v1, br_f (fun y => hb (hrr.mp y)) h⟩
        · rw [e, ix_36, ci2]
          exact ⟨v2, br_f hb h⟩
/-- Y: a script's step -/
theorem yy_scr0 {post : Int32 → SY → Prop} (hd : dn = 0) (ho : ¬ op = 0) (nf : ¬ rl_fi nx) (n10 : ¬ nx = 10) (H : wY_step_160 post 0 0 (nI P) (nI Q) op wh nx (-1) sn sc ou rk pn dn bC bB bV bD aS aI aO aA bR) : wpY_step post (nI P, nI Q, op, wh, nx, -1, sn, sc, ou, rk, pn, dn, bC, bB, bV, bD, aS, aI, aO, aA, bR) 0 := by
  have n4 : ¬ nx = 4 := fun z => nf (Or.inl z)
  have n7 : ¬ nx = 7 := fun z => nf (Or.inr (Or.inl z))
  have n8 : ¬ nx = 8 := fun z => nf (Or.inr (Or.inr (Or.inl z)))
  have n12 : ¬ nx = 12 := fun z => nf (Or.inr (Or.inr (Or.inr z)))
  exact br_t hd (br_f ho (br_t (by decide) (br_t rfl (br_t rfl (br_f n7 (br_f n8 (br_f n12 (br_f n10 (br_f n4 (br_t rfl H))))))))))
theorem yy_scr1 {post : Int32 → SY → Prop} {t : Int32} (hd : dn = 0) (ho : ¬ op = 0) (nf : ¬ rl_fi nx) (ht : ¬ t = 0 ∨ nx = 10) (H : wY_step_160 post 0 1 (nI P) (nI Q) op wh nx (-1) sn sc ou rk pn dn bC bB bV bD aS aI aO aA bR) : wpY_step post (nI P, nI Q, op, wh, nx, -1, sn, sc, ou, rk, pn, dn, bC, bB, bV, bD, aS, aI, aO, aA, bR) t := by
  have n4 : ¬ nx = 4 := fun z => nf (Or.inl z)
  have n7 : ¬ nx = 7 := fun z => nf (Or.inr (Or.inl z))
  have n8 : ¬ nx = 8 := fun z => nf (Or.inr (Or.inr (Or.inl z)))
  have n12 : ¬ nx = 12 := fun z => nf (Or.inr (Or.inr (Or.inr z)))
  have H97 : wY_step_97 post 0 (-1) (nI P) (nI Q) op wh nx (-1) sn sc ou rk pn dn bC bB bV bD aS aI aO aA bR := br_f n4 (br_t rfl H)
  exact br_t hd (br_f ho (br_t (by decide) (br_t rfl (br_c (fun z => br_f n7 (br_f n8 (br_f n12 (br_t (ht.resolve_left (fun y => y z)) H97)))) (fun _ => H97)))))
theorem yy_176m0 {post : Int32 → SY → Prop} (ho : ¬ op = 0) (h : post 2 (nI P, nI Q, op, wh, nx, cu, nx, cu, ou, 0, pn, dn, bC, bB, cp_f bC bV 0 120, bD, aS, aI, aO, aA, bR)) : wY_step_176 post 0 0 (nI P) (nI Q) op wh nx cu sn sc ou rk pn dn bC bB bV bD aS aI aO aA bR := by
  refine br_t rfl ?_
  unfold wY_step_198
  exact yy_save (br_f ho (br_t rfl h))
theorem yy_176m1 {post : Int32 → SY → Prop} (ho : ¬ op = 0) (h : post 1 (nI P, nI Q, op, wh, nx, cu, nx, cu, ou, 0, pn, dn, bC, bB, cp_f bC bV 0 120, bD, aS, aI, aO, aA, bR)) : wY_step_176 post 0 1 (nI P) (nI Q) op wh nx cu sn sc ou rk pn dn bC bB bV bD aS aI aO aA bR := by
  refine br_t rfl ?_
  unfold wY_step_198
  exact yy_save (br_f ho (br_f (by decide) h))
theorem yy_176e {post : Int32 → SY → Prop} {z : Int32} (h : post ou (nI P, nI Q, 0, wh, nx, cu, nx, cu, ou, 0, pn, dn, bC, bB, cp_f bC bV 0 120, bD, aS, aI, aO, aA, bR)) : wY_step_176 post 0 z (nI P) (nI Q) 0 wh nx cu sn sc ou rk pn dn bC bB bV bD aS aI aO aA bR := by
  refine br_t rfl ?_
  unfold wY_step_198
  exact yy_save (br_t rfl h)
theorem xx_st80 {post : Int32 → SX → Prop} {r : Int32} (h : post r (nI P, nI Q, op, wh, pn, nx, cu, ou, dn, 0, nx, cu, aC, aD, aS, aI, aO, aA, aR, aG, aT, aJ, aK)) : wX_step_80 post r (nI P) (nI Q) op wh pn nx cu ou dn rk sn sc aC aD aS aI aO aA aR aG aT aJ aK := h
end
end
section
/-! ===== step, the two sides together ===== -/
theorem i_vc_step {k : Nat} {u : SX} {v : SY} (I : i_Rel k u v) (hk : k + 5 ≤ 2562) (v1 : Int32) : wpX_step (fun r u' => wpY_step (fun r' v' => r' = r ∧ i_Rel (k + 5) u' v') v (lw_bz v1)) u (lw_bz v1) := by
  refine zz_el (M := fun u v => wpX_step (fun r u' => wpY_step (fun r' v' => r' = r ∧ i_Rel (k + 5) u' v') v (lw_bz v1)) u (lw_bz v1)) I ?_
  intro P Q op wh pn nx cu ou dn rk sn sc aC aD aS aI aO aA aR aG aT aJ aK bC bB bV bD bR F
  have hS := F.1
  obtain ⟨hP2, hP6, hQ2, hQ12, hC, hD, hT, hA, hR⟩ := hS
  generalize lw_bz v1 = t
  by_cases hd : dn = 0
  · by_cases ho : op = 0
    · exact br_t hd (br_t ho (br_t hd (br_t ho (And.intro rfl (zz_in F)))))
    · obtain ⟨w, r, aB, Y⟩ := rl_wY F.2 ho
      have Y' := Y
      obtain ⟨hw, hwh, ⟨hal, hcu⟩, hs, hr, hb, hj, hB, hV, hO⟩ := Y'
      subst hwh hr
      have hw6 : w < 6 := by omega
      rcases hcu with ⟨hf, c, hc, rfl⟩ | ⟨nf, rfl⟩
      · -- a file step
        have hr24 : r < 24 := fw_24 hQ12 hc hb hf
        have hpl : rl_pl Q bD (nI w) c < 24 := Nat.lt_of_lt_of_le (rl_pl_lt hc) (by omega)
        obtain ⟨v, b', hE', hch, hwr⟩ := lk_write (P := P) (op := op) (pn := pn) (ou := ou) (dn := dn) (rk := nI r) (sn := sn) (sc := sc) (aD := aD) (aS := aS) (aI := aI) (aO := aO) (aR := aR) (aJ := aJ) (aK := aK) (bV := bV) (bR := bR) (aT := aT) (aG := aG) hw6 hc hQ12 hA hC hB hf ⟨fun z => (hO.1 _ hpl (fun q hq e => (rl_pl_inj hc hq e) ▸ z)).1, fun z => hO.2 c hc z⟩
        -- the step that goes well
        have W : ∃ (a b : Int32), rl_Pos Q op a b ∧ rl_B a b (r + 1) ∧ (∀ post : Int32 → SX → Prop, post 1 (nI P, nI Q, op, nI w, pn, a, b, ou, dn, nI (r + 1), sn, sc, upd aC (rl_pl Q bD (nI w) c) v, aD, aS, aI, aO, aA, aR, rl_tG aT aG c (aC (rl_pl Q bD (nI w) c)), rl_tT aT c, upd aJ r (nI (rl_pl Q bD (nI w) c)), upd aK r (aC (rl_pl Q bD (nI w) c))) → wX_fileStep_33 post (nI P) (nI Q) op (nI w) pn nx (nI c) ou dn (nI r) sn sc aC aD aS aI aO aA aR aG aT aJ aK) ∧ (∀ post : Int32 → SY → Prop, post 1 (nI P, nI Q, op, nI w, a, b, sn, sc, ou, nI (r + 1), pn, dn, b', bB, bV, bD, aS, aI, aO, aA, bR) → wY_step_147 post 1 1 (nI P) (nI Q) op (nI w) nx (nI c) sn sc ou (nI r) pn dn bC bB bV bD aS aI aO aA bR) := by
          by_cases h12 : nx = 12
          · subst h12
            obtain rfl := rl_al12 hal
            have h3 := (hb.2 c (by omega) rfl).2.2 rfl
            exact ⟨_, _, rb_pos (a := aA) (b := 12 * w) (Nat.le_of_lt hc) hQ12, rb_B (Nat.le_of_lt hc) hQ12 (by omega), fun post h => xx_fsR hw6 hc hQ12 hr24 hD hch h, fun post h => yy_fsR hw6 (by omega) ho hwr h⟩
          · have hrun : fw_run nx := by
              rcases hf with h | h | h | h
              · exact Or.inl h
              · exact Or.inr (Or.inl h)
              · exact Or.inr (Or.inr h)
              · exact absurd h h12
            have ha := fi_al hal hrun
            have n10 : ¬ nx = 10 := fun z => by rcases hrun with h | h | h <;> exact absurd (h.symm.trans z) (by decide)
            have n11 : ¬ nx = 11 := fun z => by rcases hrun with h | h | h <;> exact absurd (h.symm.trans z) (by decide)
            have n13 : ¬ nx = 13 := fun z => by rcases hrun with h | h | h <;> exact absurd (h.symm.trans z) (by decide)
            have n14 : ¬ nx = 14 := fun z => by rcases hrun with h | h | h <;> exact absurd (h.symm.trans z) (by decide)
            obtain ⟨a, b, hat, hor, hX, hY⟩ := lk_fwF (P := P) (pn := pn) (ou := ou) (dn := dn) (rk := nI (r + 1)) (rj := nI r) (sn := sn) (sc := sc) (aS := aS) (aI := aI) (aO := aO) (aA := aA) (aR := aR) (aG := rl_tG aT aG c (aC (rl_pl Q bD (nI w) c))) (aT := rl_tT aT c) (aJ := upd aJ r (nI (rl_pl Q bD (nI w) c))) (aK := upd aK r (aC (rl_pl Q bD (nI w) c))) (bB := bB) (bV := bV) (bR := bR) hw6 hc hQ12 hD hE' ha hrun
            exact ⟨a, b, fw_pos hat, fw_B hQ12 hc hb ha hrun hat hor, fun post h => xx_fsE hc hQ12 hr24 hD h12 hch hX h, fun post h => yy_fsE ho n11 h12 n13 n14 n10 hwr hY h⟩
        obtain ⟨a, b, hpos, hB', hX, hY⟩ := W
        have F' := rl_file F.1 Y hc hE' hpos hB'
        by_cases h4 : nx = 4
        · subst h4
          obtain rfl := rl_al4 hal
          have FF := rl_move F ho (rb_pos (a := aA) (b := 12 * w) (Nat.le_of_lt hc) hQ12)
          have H19 : wY_step_147 (fun r' v' => r' = 2 ∧ i_Rel (k + 5) (nI P, nI Q, 1, nI w, pn, rb_n (rb_f aA (12 * w) c), rb_f aA (12 * w) c, ou, dn, 0, rb_n (rb_f aA (12 * w) c), rb_f aA (12 * w) c, aC, aD, aS, aI, aO, aA, aR, aG, aT, aJ, aK) v') 1 0 (nI P) (nI Q) 1 (nI w) 4 (nI c) sn sc ou (nI r) pn dn bC bB bV bD aS aI aO aA bR := yy_fs19 hw6 (by omega) ho (And.intro rfl (zz_in FF))
          rcases lk_may (P := P) (op := 1) (pn := pn) (nx := 4) (ou := ou) (dn := dn) (rk := nI r) (sn := sn) (sc := sc) (aS := aS) (aI := aI) (aO := aO) (aA := aA) (aG := aG) (aT := aT) (aJ := aJ) (aK := aK) (bB := bB) (bV := bV) hw6 hc hQ12 hD hC hR with ⟨mX, mY⟩ | ⟨mX, mY⟩
          · by_cases ht : t = 0
            · refine xx_stf hd ho hf (br_t rfl (br_t ht (xx_fs19 hw6 (by omega) (yy_stf hd ho hc hQ12 hC (br_t ht ?_)))))
              exact br_f (by decide) (br_f (by decide) (br_f (by decide) (br_f (by decide) (mY _ 0 H19))))
            · refine xx_stf hd ho hf (br_t rfl (br_f ht (mX _ (br_f (by decide) (hX _ (yy_stf hd ho hc hQ12 hC (br_f ht ?_)))))))
              exact mY _ 1 (hY _ (And.intro rfl (zz_in F')))
          · by_cases ht : t = 0
            · refine xx_stf hd ho hf (br_t rfl (br_t ht (xx_fs19 hw6 (by omega) (yy_stf hd ho hc hQ12 hC (br_t ht ?_)))))
              exact br_f (by decide) (br_f (by decide) (br_f (by decide) (br_f (by decide) (mY _ 0 H19))))
            · refine xx_stf hd ho hf (br_t rfl (br_f ht (mX _ (br_t rfl (xx_fs19 hw6 (by omega) (yy_stf hd ho hc hQ12 hC (br_f ht ?_)))))))
              exact mY _ 1 H19
        · refine xx_stf hd ho hf (br_f h4 (hX _ (yy_stf hd ho hc hQ12 hC ?_)))
          have H97 : wY_step_97 (fun r' v' => r' = 1 ∧ i_Rel (k + 5) (nI P, nI Q, op, nI w, pn, a, b, ou, dn, nI (r + 1), sn, sc, upd aC (rl_pl Q bD (nI w) c) v, aD, aS, aI, aO, aA, aR, rl_tG aT aG c (aC (rl_pl Q bD (nI w) c)), rl_tT aT c, upd aJ r (nI (rl_pl Q bD (nI w) c)), upd aK r (aC (rl_pl Q bD (nI w) c))) v') 1 (cl_ow (aC (rl_pl Q bD (nI w) c))) (nI P) (nI Q) op (nI w) nx (nI c) sn sc ou (nI r) pn dn bC bB bV bD aS aI aO aA bR := br_f h4 (hY _ (And.intro rfl (zz_in F')))
          refine br_c (fun _ => ?_) (fun _ => H97)
          by_cases h7 : nx = 7
          · exact br_t h7 H97
          · by_cases h8 : nx = 8
            · exact br_f h7 (br_t h8 H97)
            · exact br_f h7 (br_f h8 (br_t (((hf.resolve_left h4).resolve_left h7).resolve_left h8) H97))
      · -- a script, or the commit
        have n4 : ¬ nx = 4 := fun z => nf (Or.inl z)
        have n7 : ¬ nx = 7 := fun z => nf (Or.inr (Or.inl z))
        have n8 : ¬ nx = 8 := fun z => nf (Or.inr (Or.inr (Or.inl z)))
        have n12 : ¬ nx = 12 := fun z => nf (Or.inr (Or.inr (Or.inr z)))
        by_cases n10 : nx = 10
        · have ho4 : op = 1 ∨ op = 2 ∨ op = 3 ∨ op = 4 := by
            rcases hal with ⟨h, _⟩ | ⟨h, _⟩ | ⟨h, _⟩ | ⟨h, _⟩
            · exact Or.inl h
            · exact Or.inr (Or.inl h)
            · exact Or.inr (Or.inr (Or.inl h))
            · exact Or.inr (Or.inr (Or.inr h))
          obtain ⟨s, aI', hs5, hX, hY⟩ := sc_commit (P := P) (pn := pn) (nx := nx) (cu := -1) (ou := ou) (dn := dn) (rk := nI r) (sn := sn) (sc := sc) (aD := aD) (aS := aS) (aI := aI) (aO := aO) (aA := aA) (aR := aR) (aG := aG) (aT := aT) (aJ := aJ) (aK := aK) (bB := bB) (bV := bV) (bD := bD) (bR := bR) hw6 hQ12 hC ho4
          have n11 : ¬ nx = 11 := by rw [n10]; decide
          have n13 : ¬ nx = 13 := by rw [n10]; decide
          have n14 : ¬ nx = 14 := by rw [n10]; decide
          exact br_t hd (br_f ho (xx_run0 n4 n7 n8 (br_t rfl (br_f n12 (br_t n10 (hX _ (xx_st80 (yy_scr1 hd ho nf (Or.inr n10) (br_f (by decide) (br_f n11 (br_f n12 (br_f n13 (br_f n13 (br_f n14 (br_t n10 (hY _ (yy_176e (And.intro rfl (zz_in (rl_end (w := w) F hs5))))))))))))))))))))
        · by_cases ht : t = 0
          · subst ht
            rcases sc_fail (P := P) (Q := Q) (pn := pn) (nx := nx) (ou := ou) (dn := dn) (rk := nI r) (sn := sn) (sc := sc) (aC := aC) (aD := aD) (aS := aS) (aI := aI) (aO := aO) (aA := aA) (aR := aR) (aG := aG) (aT := aT) (aJ := aJ) (aK := aK) (bC := bC) (bB := bB) (bV := bV) (bD := bD) (bR := bR) hw6 hal nf n10 with ⟨a, b, hpos, hX, hY⟩ | ⟨o, s, hs5, hX, hY⟩
            · exact br_t hd (br_f ho (xx_run0 n4 n7 n8 (br_t rfl (br_f n12 (br_f n10 (br_t rfl (hX _ (xx_st80 (yy_scr0 hd ho nf n10 (br_t rfl (hY _ (yy_176m0 ho (And.intro rfl (zz_in (rl_move F ho hpos)))))))))))))))
            · exact br_t hd (br_f ho (xx_run0 n4 n7 n8 (br_t rfl (br_f n12 (br_f n10 (br_t rfl (hX _ (xx_st80 (yy_scr0 hd ho nf n10 (br_t rfl (hY _ (yy_176e (And.intro rfl (zz_in (rl_end (w := w) F hs5)))))))))))))))
          · rcases sc_well (P := P) (pn := pn) (nx := nx) (ou := ou) (dn := dn) (rk := nI r) (sn := sn) (sc := sc) (aI := aI) (aO := aO) (aA := aA) (aR := aR) (aG := aG) (aT := aT) (aJ := aJ) (aK := aK) (bB := bB) (bV := bV) (bR := bR) hw6 hQ12 hD hT hC hal nf n10 with ⟨a, b, hpos, hX, hY⟩ | ⟨o, s, hs5, hX, hY⟩
            · exact br_t hd (br_f ho (xx_run0 n4 n7 n8 (br_t rfl (br_f n12 (br_f n10 (br_f ht (hX _ (xx_st80 (yy_scr1 hd ho nf (Or.inl ht) (br_f (by decide) (hY _ (yy_176m1 ho (And.intro rfl (zz_in (rl_move F ho hpos)))))))))))))))
            · exact br_t hd (br_f ho (xx_run0 n4 n7 n8 (br_t rfl (br_f n12 (br_f n10 (br_f ht (hX _ (xx_st80 (yy_scr1 hd ho nf (Or.inl ht) (br_f (by decide) (hY _ (yy_176e (And.intro rfl (zz_in (rl_end (w := w) F hs5)))))))))))))))
  · exact br_f hd (br_f hd (And.intro rfl (zz_in F)))
end
