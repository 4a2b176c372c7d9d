section
theorem pk_us {f : Nat → Int32} {k : Nat} {x : Int32} : upd f k x k = x := if_pos rfl
theorem pk_un {f : Nat → Int32} {k j : Nat} {x : Int32} (h : j ≠ k) : upd f k x j = f j := if_neg h
theorem pk_sub {a b : Nat} (h : b ≤ a) : nI a - nI b = nI (a - b) := by
  obtain ⟨c, rfl⟩ : ∃ c, a = c + b := ⟨a - b, by omega⟩
  rw [← nI_add, Int32.add_sub_cancel, Nat.add_sub_cancel]
theorem pk_mul (a b : Nat) : nI a * nI b = nI (a * b) := (Int32.ofNat_mul a b).symm
theorem pk_le {x y : Int32} {A B : Prop} (a b : Nat) (f : a ≤ b → A) (g : b < a → B) (hx : x = nI a := by rfl) (hy : y = nI b := by rfl) (ha : a < 2 ^ 31 := by omega) (hb : b < 2 ^ 31 := by omega) : (x ≤ y → A) ∧ (¬ x ≤ y → B) := by
  subst hx hy
  rw [nI_leI ha hb]
  exact ⟨f, fun z => g (by omega)⟩
theorem pk_lt {x y : Int32} {A B : Prop} (a b : Nat) (f : a < b → A) (g : b ≤ a → B) (hx : x = nI a := by rfl) (hy : y = nI b := by rfl) (ha : a < 2 ^ 31 := by omega) (hb : b < 2 ^ 31 := by omega) : (x < y → A) ∧ (¬ x < y → B) := by
  subst hx hy
  rw [nI_ltI ha hb]
  exact ⟨f, fun z => g (by omega)⟩
theorem pk_eq {x y : Int32} {A B : Prop} (a b : Nat) (f : a = b → A) (g : a ≠ b → B) (hx : x = nI a := by rfl) (hy : y = nI b := by rfl) (ha : a < 2 ^ 31 := by omega) (hb : b < 2 ^ 31 := by omega) : (x = y → A) ∧ (¬ x = y → B) := by
  subst hx hy
  rw [nI_eq ha hb]
  exact ⟨f, g⟩
theorem pk_in {x : Int32} (n N : Nat) (h : n < N) (hx : x = nI n := by rfl) (hN : N < 2 ^ 31 := by omega) : vp_in x N := by
  subst hx
  exact vp_in_nI h hN
theorem pk_cl {x : Int32} (n : Nat) (hx : x = nI n := by rfl) (h : n < 2 ^ 31 := by omega) : x.toNatClampNeg = n := by
  subst hx
  exact nI_clamp h
theorem pk_tn {n : Nat} (h : n < 2 ^ 32) : (nI n).toBitVec.toNat = n := Nat.mod_eq_of_lt h
theorem pk_and (x : Int32) {m : Int32} (k : Nat) (hm : m.toBitVec.toNat = 2 ^ k - 1) : x &&& m = nI (x.toBitVec.toNat % 2 ^ k) := by
  apply Int32.toBitVec_inj.mp
  apply BitVec.eq_of_toNat_eq
  rw [Int32.toBitVec_and, BitVec.toNat_and, hm, Nat.and_two_pow_sub_one_eq_mod]
  show _ = (BitVec.ofNat 32 _).toNat
  rw [BitVec.toNat_ofNat]
  exact (Nat.mod_eq_of_lt (Nat.lt_of_le_of_lt (Nat.mod_le _ _) x.toBitVec.isLt)).symm
theorem pk_andN {n : Nat} (h : n < 2 ^ 32) {m : Int32} (k : Nat) (hm : m.toBitVec.toNat = 2 ^ k - 1) : nI n &&& m = nI (n % 2 ^ k) := by
  rw [pk_and _ k hm, pk_tn h]
theorem pk_andE (x : Int32) {m : Int32} (k : Nat) (hm : m.toBitVec.toNat = 2 ^ k - 1) : ∃ j : Nat, j < 2 ^ k ∧ x &&& m = nI j := ⟨_, Nat.mod_lt _ (Nat.two_pow_pos k), pk_and x k hm⟩
def bt (x : Int32) (i : Nat) : Bool := x.toBitVec.getLsbD i
theorem b_ext {x y : Int32} (h : ∀ i, i < 32 → bt x i = bt y i) : x = y := Int32.toBitVec_inj.mp (BitVec.eq_of_getLsbD_eq (fun i hi => h i hi))
theorem b_or (x y : Int32) (i : Nat) : bt (x ||| y) i = (bt x i || bt y i) := by unfold bt; rw [Int32.toBitVec_or, BitVec.getLsbD_or]
theorem b_and (x y : Int32) (i : Nat) : bt (x &&& y) i = (bt x i && bt y i) := by unfold bt; rw [Int32.toBitVec_and, BitVec.getLsbD_and]
theorem b_big {x : Int32} {i : Nat} (h : 32 ≤ i) : bt x i = false := BitVec.getLsbD_of_ge _ _ h
theorem b_0 (i : Nat) : bt 0 i = false := BitVec.getLsbD_zero
theorem s_l : ∀ n, n < 32 → ((nI n &&& 31).toBitVec.smod 32).toNat = n := by decide +kernel
theorem s_u : ∀ n, n < 32 → (((nI n).toUInt32 &&& Int32.toUInt32 31).toBitVec % 32).toNat = n := by decide +kernel
theorem b_shl (n : Nat) (hn : n < 32) (x : Int32) {i : Nat} (hi : i < 32) : bt (x <<< (nI n &&& 31)) i = (decide (n ≤ i) && bt x (i - n)) := by
  unfold bt
  rw [Int32.toBitVec_shiftLeft]
  show (x.toBitVec <<< ((nI n &&& 31).toBitVec.smod 32).toNat).getLsbD i = _
  rw [s_l n hn, BitVec.getLsbD_shiftLeft]
  rcases Nat.lt_or_ge i n with h | h
  · simp [h, Nat.not_le.mpr h]
  · simp [hi, h, Nat.not_lt.mpr h]
theorem b_ushr (n : Nat) (hn : n < 32) (x : Int32) (i : Nat) : bt ((x.toUInt32 >>> ((nI n).toUInt32 &&& Int32.toUInt32 31)).toInt32) i = bt x (n + i) := by
  show (x.toUInt32 >>> ((nI n).toUInt32 &&& Int32.toUInt32 31)).toBitVec.getLsbD i = x.toUInt32.toBitVec.getLsbD (n + i)
  rw [UInt32.toBitVec_shiftRight]
  show (x.toUInt32.toBitVec >>> (((nI n).toUInt32 &&& Int32.toUInt32 31).toBitVec % 32).toNat).getLsbD i = _
  rw [s_u n hn, BitVec.getLsbD_ushiftRight]
theorem b_sshr (n : Nat) (hn : n < 32) (x : Int32) {i : Nat} (hi : i < 32) : bt (x >>> (nI n &&& 31)) i = if n + i < 32 then bt x (n + i) else bt x 31 := by
  unfold bt
  rw [Int32.toBitVec_shiftRight]
  show (x.toBitVec.sshiftRight ((nI n &&& 31).toBitVec.smod 32).toNat).getLsbD i = _
  rw [s_l n hn, BitVec.getLsbD_sshiftRight, BitVec.msb_eq_getLsbD_last]
  simp [hi]
end
section
/-! sums over the first n, one place changed -/
def cu_sm (f : Nat → Int) : Nat → Int
  | 0 => 0
  | n + 1 => cu_sm f n + f n
theorem cu_sm_s (f : Nat → Int) (n : Nat) : cu_sm f (n + 1) = cu_sm f n + f n := rfl
theorem cu_sm_cg {f g : Nat → Int} (n : Nat) (h : ∀ i, i < n → f i = g i) : cu_sm f n = cu_sm g n := by
  induction n with
  | zero => rfl
  | succ n ih => rw [cu_sm_s, cu_sm_s, ih (fun i hi => h i (by omega)), h n (by omega)]
theorem cu_sm_le {f g : Nat → Int} (n : Nat) (h : ∀ i, i < n → f i ≤ g i) : cu_sm f n ≤ cu_sm g n := by
  induction n with
  | zero => exact Int.le_refl 0
  | succ n ih =>
    rw [cu_sm_s, cu_sm_s]
    have h1 := ih (fun i hi => h i (by omega))
    have h2 := h n (by omega)
    omega
theorem cu_sm_nn {f : Nat → Int} (n : Nat) (h : ∀ i, i < n → 0 ≤ f i) : 0 ≤ cu_sm f n := by
  induction n with
  | zero => exact Int.le_refl 0
  | succ n ih =>
    rw [cu_sm_s]
    have h1 := ih (fun i hi => h i (by omega))
    have h2 := h n (by omega)
    omega
theorem cu_sm_0 {f : Nat → Int} (n : Nat) (h : ∀ i, i < n → f i = 0) : cu_sm f n = 0 := by
  induction n with
  | zero => rfl
  | succ n ih => rw [cu_sm_s, ih (fun i hi => h i (by omega)), h n (by omega)]; rfl
theorem cu_sm_ub {f : Nat → Int} {c : Int} (n : Nat) (h : ∀ i, i < n → f i ≤ c) : cu_sm f n ≤ c * n := by
  induction n with
  | zero => show (0 : Int) ≤ c * ((0 : Nat) : Int); omega
  | succ n ih =>
    rw [cu_sm_s]
    have h1 := ih (fun i hi => h i (by omega))
    have h2 := h n (by omega)
    have h3 : c * ((n + 1 : Nat) : Int) = c * n + c := by rw [Int.natCast_add, Int.mul_add]; simp
    omega
theorem cu_sm_ge {f : Nat → Int} (n : Nat) (h : ∀ i, i < n → 0 ≤ f i) (k : Nat) (hk : k < n) : f k ≤ cu_sm f n := by
  induction n with
  | zero => omega
  | succ n ih =>
    rw [cu_sm_s]
    have h1 := h n (by omega)
    by_cases e : k = n
    · subst e
      have h2 := cu_sm_nn k (fun i hi => h i (by omega))
      omega
    · have h2 := ih (fun i hi => h i (by omega)) (by omega)
      omega
theorem cu_sm_o {f g : Nat → Int} {k : Nat} (h : ∀ i, i ≠ k → g i = f i) (n : Nat) (hn : n ≤ k) : cu_sm g n = cu_sm f n :=
  cu_sm_cg n (fun i hi => h i (by omega))
theorem cu_sm_1 {f g : Nat → Int} {k : Nat} (h : ∀ i, i ≠ k → g i = f i) (n : Nat) (hk : k < n) : cu_sm g n = cu_sm f n + (g k - f k) := by
  induction n with
  | zero => omega
  | succ n ih =>
    rw [cu_sm_s, cu_sm_s]
    by_cases e : k = n
    · subst e
      rw [cu_sm_o h k (Nat.le_refl k)]
      omega
    · rw [ih (by omega), h n (by omega)]
      omega
theorem cu_sm_lt {f g : Nat → Int} (n : Nat) (h : ∀ i, i < n → f i ≤ g i) (k : Nat) (hk : k < n) (h1 : f k + 1 ≤ g k) : cu_sm f n + 1 ≤ cu_sm g n := by
  induction n with
  | zero => omega
  | succ n ih =>
    rw [cu_sm_s, cu_sm_s]
    have h2 := h n (by omega)
    by_cases e : k = n
    · subst e
      have h3 := cu_sm_le k (fun i hi => h i (by omega))
      omega
    · have h3 := ih (fun i hi => h i (by omega)) (by omega)
      omega
/-! the network: what room is left on the lines from a set to its rest -/
def cu_w (S : Nat → Bool) (k : Nat) : Bool := S (k / 11) && !S (k % 11)
def cu_Kf (S : Nat → Bool) (r : Nat → Int) (k : Nat) : Int := if cu_w S k = true then r k else 0
def cu_K (S : Nat → Bool) (r : Nat → Int) : Int := cu_sm (cu_Kf S r) 121
def cu_NN (r : Nat → Int) : Prop := ∀ k, k < 121 → 0 ≤ r k
def cu_PB (r : Nat → Int) : Prop := ∀ x y, x < 11 → y < 11 → r (11 * x + y) + r (11 * y + x) ≤ 2000000
theorem cu_ix1 {x y : Nat} (hy : y < 11) : (11 * x + y) / 11 = x := by omega
theorem cu_ix2 {x y : Nat} (hy : y < 11) : (11 * x + y) % 11 = y := by omega
theorem cu_w_ix (S : Nat → Bool) {x y : Nat} (hy : y < 11) : cu_w S (11 * x + y) = (S x && !S y) := by
  unfold cu_w
  rw [cu_ix1 hy, cu_ix2 hy]
theorem cu_Kf_t {S : Nat → Bool} {r : Nat → Int} {x y : Nat} (hy : y < 11) (h : (S x && !S y) = true) : cu_Kf S r (11 * x + y) = r (11 * x + y) := by
  unfold cu_Kf
  rw [cu_w_ix S hy, if_pos h]
theorem cu_Kf_f {S : Nat → Bool} {r : Nat → Int} {x y : Nat} (hy : y < 11) (h : ¬ (S x && !S y) = true) : cu_Kf S r (11 * x + y) = 0 := by
  unfold cu_Kf
  rw [cu_w_ix S hy, if_neg h]
theorem cu_Kf_nn {S : Nat → Bool} {r : Nat → Int} (h : cu_NN r) : ∀ k, k < 121 → 0 ≤ cu_Kf S r k := by
  intro k hk
  unfold cu_Kf
  split
  · exact h k hk
  · exact Int.le_refl 0
theorem cu_K_nn {S : Nat → Bool} {r : Nat → Int} (h : cu_NN r) : 0 ≤ cu_K S r := cu_sm_nn 121 (cu_Kf_nn h)
theorem cu_K_ge {S : Nat → Bool} {r : Nat → Int} (h : cu_NN r) {x y : Nat} (hx : x < 11) (hy : y < 11) (hc : (S x && !S y) = true) : r (11 * x + y) ≤ cu_K S r := by
  have e := cu_sm_ge 121 (cu_Kf_nn (S := S) h) (11 * x + y) (by omega)
  rw [cu_Kf_t hy hc] at e
  exact e
theorem cu_K_z {S : Nat → Bool} {r : Nat → Int} (h : ∀ x y, x < 11 → y < 11 → S x = true → S y = false → r (11 * x + y) = 0) : cu_K S r = 0 := by
  refine cu_sm_0 121 (fun k hk => ?_)
  unfold cu_Kf cu_w
  split
  · next c =>
    rw [Bool.and_eq_true, Bool.not_eq_true'] at c
    have e := h (k / 11) (k % 11) (by omega) (by omega) c.1 c.2
    rw [show 11 * (k / 11) + k % 11 = k from by omega] at e
    exact e
  · rfl
theorem cu_K_1 {S : Nat → Bool} {r r' : Nat → Int} {x y : Nat} (hx : x < 11) (hy : y < 11) (h : ∀ i, i ≠ 11 * x + y → r' i = r i) :
    cu_K S r' = cu_K S r + (if (S x && !S y) = true then r' (11 * x + y) - r (11 * x + y) else 0) := by
  have e := cu_sm_1 (f := cu_Kf S r) (g := cu_Kf S r') (k := 11 * x + y) (fun i hi => by unfold cu_Kf; rw [h i hi]) 121 (by omega)
  show cu_sm (cu_Kf S r') 121 = cu_sm (cu_Kf S r) 121 + _
  rw [e]
  by_cases c : (S x && !S y) = true
  · rw [cu_Kf_t hy c, cu_Kf_t hy c, if_pos c]
  · rw [cu_Kf_f hy c, cu_Kf_f hy c, if_neg c]; rfl
/-! flow over one line -/
def cu_p1 (r : Nat → Int) (k : Nat) (f : Int) : Nat → Int := fun j => if j = k then r j + f else r j
theorem cu_p1_s (r : Nat → Int) (k : Nat) (f : Int) : cu_p1 r k f k = r k + f := if_pos rfl
theorem cu_p1_o (r : Nat → Int) {k j : Nat} (f : Int) (h : j ≠ k) : cu_p1 r k f j = r j := if_neg h
def cu_push (r : Nat → Int) (x y : Nat) (f : Int) : Nat → Int := cu_p1 (cu_p1 r (11 * x + y) (-f)) (11 * y + x) f
theorem cu_push_f {r : Nat → Int} {x y : Nat} {f : Int} (hx : x < 11) (hy : y < 11) (n : x ≠ y) : cu_push r x y f (11 * x + y) = r (11 * x + y) - f := by
  unfold cu_push
  rw [cu_p1_o _ _ (by omega), cu_p1_s]
  omega
theorem cu_push_b {r : Nat → Int} {x y : Nat} {f : Int} (hx : x < 11) (hy : y < 11) (n : x ≠ y) : cu_push r x y f (11 * y + x) = r (11 * y + x) + f := by
  unfold cu_push
  rw [cu_p1_s, cu_p1_o _ _ (by omega)]
theorem cu_push_o {r : Nat → Int} {x y k : Nat} {f : Int} (h1 : k ≠ 11 * x + y) (h2 : k ≠ 11 * y + x) : cu_push r x y f k = r k := by
  unfold cu_push
  rw [cu_p1_o _ _ h2, cu_p1_o _ _ h1]
theorem cu_K_p1 {S : Nat → Bool} {r : Nat → Int} {x y : Nat} {f : Int} (hx : x < 11) (hy : y < 11) :
    cu_K S (cu_p1 r (11 * x + y) f) = cu_K S r + (if (S x && !S y) = true then f else 0) := by
  rw [cu_K_1 (r := r) hx hy (fun i hi => cu_p1_o r f hi), cu_p1_s]
  split <;> omega
theorem cu_K_push {S : Nat → Bool} {r : Nat → Int} {x y : Nat} {f : Int} (hx : x < 11) (hy : y < 11) :
    cu_K S (cu_push r x y f) = cu_K S r - (if S y = true then 0 else f) + (if S x = true then 0 else f) := by
  unfold cu_push
  rw [cu_K_p1 hy hx, cu_K_p1 hx hy]
  cases S x <;> cases S y <;> simp <;> omega
theorem cu_NN_push {r : Nat → Int} {x y : Nat} {f : Int} (hx : x < 11) (hy : y < 11) (n : x ≠ y) (h : cu_NN r) (h0 : 0 ≤ f) (hf : f ≤ r (11 * x + y)) : cu_NN (cu_push r x y f) := by
  intro k hk
  by_cases e1 : k = 11 * x + y
  · subst e1; rw [cu_push_f hx hy n]; omega
  · by_cases e2 : k = 11 * y + x
    · subst e2; rw [cu_push_b hx hy n]; have := h _ hk; omega
    · rw [cu_push_o e1 e2]; exact h k hk
theorem cu_pair_push {r : Nat → Int} {x y : Nat} {f : Int} (hx : x < 11) (hy : y < 11) (n : x ≠ y) {a b : Nat} (ha : a < 11) (hb : b < 11) :
    cu_push r x y f (11 * a + b) + cu_push r x y f (11 * b + a) = r (11 * a + b) + r (11 * b + a) := by
  by_cases e1 : a = x ∧ b = y
  · obtain ⟨rfl, rfl⟩ := e1
    rw [cu_push_f hx hy n, cu_push_b hx hy n]; omega
  · by_cases e2 : a = y ∧ b = x
    · obtain ⟨rfl, rfl⟩ := e2
      rw [cu_push_f hx hy n, cu_push_b hx hy n]; omega
    · rw [cu_push_o (by omega) (by omega), cu_push_o (by omega) (by omega)]
theorem cu_PB_push {r : Nat → Int} {x y : Nat} {f : Int} (hx : x < 11) (hy : y < 11) (n : x ≠ y) (h : cu_PB r) : cu_PB (cu_push r x y f) := by
  intro a b ha hb
  rw [cu_pair_push hx hy n ha hb]
  exact h a b ha hb
end
section
/-! ways along parents: s the start, par the parents, d the depths (more than 10: not reached) -/
def cu_T (s : Nat) (par d : Nat → Nat) : Prop := s < 11 ∧ d s = 0 ∧ ∀ p, p < 11 → d p ≤ 10 → p ≠ s → par p < 11 ∧ d (par p) + 1 = d p
theorem cu_T_s {s : Nat} {par d : Nat → Nat} {n a : Nat} (T : cu_T s par d) (ha : a < 11) (hd : d a = n + 1) (hn : n + 1 ≤ 10) : par a < 11 ∧ d (par a) = n ∧ par a ≠ a ∧ a ≠ s := by
  have h : a ≠ s := fun e => by rw [e, T.2.1] at hd; omega
  obtain ⟨h1, h2⟩ := T.2.2 a ha (by omega) h
  refine ⟨h1, by omega, fun e => ?_, h⟩
  rw [e] at h2
  omega
theorem cu_T_0 {s : Nat} {par d : Nat → Nat} {a : Nat} (T : cu_T s par d) (ha : a < 11) (hd : d a = 0) : a = s := by
  apply Classical.byContradiction
  intro h
  have e := (T.2.2 a ha (by omega) h).2
  omega
def cu_aug (par : Nat → Nat) (f : Int) : Nat → Nat → (Nat → Int) → (Nat → Int)
  | 0, _, r => r
  | n + 1, a, r => cu_aug par f n (par a) (cu_push r (par a) a f)
/-- on each line of the way there is room for f -/
def cu_pl (par : Nat → Nat) (f : Int) (r : Nat → Int) : Nat → Nat → Prop
  | 0, _ => True
  | n + 1, a => f ≤ r (11 * par a + a) ∧ cu_pl par f r n (par a)
/-- on some line of the way there is room for f and no more -/
def cu_px (par : Nat → Nat) (f : Int) (r : Nat → Int) : Nat → Nat → Prop
  | 0, _ => False
  | n + 1, a => r (11 * par a + a) = f ∨ cu_px par f r n (par a)
/-- each line of the way climbs by one -/
def cu_pt (par h : Nat → Nat) : Nat → Nat → Prop
  | 0, _ => True
  | n + 1, a => h a = h (par a) + 1 ∧ cu_pt par h n (par a)
theorem cu_lo {d : Nat → Nat} {r : Nat → Int} {q a n : Nat} {f : Int} (ha : a < 11) (hq : q < 11) (hd : d a = n + 1) {x y : Nat} (hx : x < 11) (hy : y < 11) (dx : d x ≤ n) (dy : d y ≤ n) : cu_push r q a f (11 * x + y) = r (11 * x + y) := by
  have h1 : x ≠ a := fun e => by rw [e] at dx; omega
  have h2 : y ≠ a := fun e => by rw [e] at dy; omega
  exact cu_push_o (by omega) (by omega)
section
variable {s : Nat} {par d : Nat → Nat}
theorem cu_pl_cg (T : cu_T s par d) {f : Int} {r r' : Nat → Int} : ∀ n a, a < 11 → d a = n → n ≤ 10 → (∀ x y, x < 11 → y < 11 → d x ≤ n → d y ≤ n → r' (11 * x + y) = r (11 * x + y)) → cu_pl par f r n a → cu_pl par f r' n a := by
  intro n
  induction n with
  | zero => intro a _ _ _ _ _; exact True.intro
  | succ n ih =>
    intro a ha hd hn he hp
    obtain ⟨h1, h2, h3, h4⟩ := cu_T_s T ha hd hn
    refine ⟨?_, ih (par a) h1 h2 (by omega) (fun x y hx hy dx dy => he x y hx hy (by omega) (by omega)) hp.2⟩
    rw [he (par a) a h1 ha (by omega) (by omega)]
    exact hp.1
theorem cu_px_cg (T : cu_T s par d) {f : Int} {r r' : Nat → Int} : ∀ n a, a < 11 → d a = n → n ≤ 10 → (∀ x y, x < 11 → y < 11 → d x ≤ n → d y ≤ n → r' (11 * x + y) = r (11 * x + y)) → cu_px par f r n a → cu_px par f r' n a := by
  intro n
  induction n with
  | zero => intro a _ _ _ _ hp; exact hp
  | succ n ih =>
    intro a ha hd hn he hp
    obtain ⟨h1, h2, h3, h4⟩ := cu_T_s T ha hd hn
    rcases hp with hp | hp
    · refine Or.inl ?_
      rw [he (par a) a h1 ha (by omega) (by omega)]
      exact hp
    · exact Or.inr (ih (par a) h1 h2 (by omega) (fun x y hx hy dx dy => he x y hx hy (by omega) (by omega)) hp)
theorem cu_pl_push (T : cu_T s par d) {f g : Int} {r : Nat → Int} {n a : Nat} (ha : a < 11) (hd : d a = n + 1) (hn : n + 1 ≤ 10) (h : cu_pl par f r n (par a)) : cu_pl par f (cu_push r (par a) a g) n (par a) := by
  obtain ⟨h1, h2, h3, h4⟩ := cu_T_s T ha hd hn
  exact cu_pl_cg T n (par a) h1 h2 (by omega) (fun x y hx hy dx dy => cu_lo ha h1 hd hx hy dx dy) h
theorem cu_px_push (T : cu_T s par d) {f g : Int} {r : Nat → Int} {n a : Nat} (ha : a < 11) (hd : d a = n + 1) (hn : n + 1 ≤ 10) (h : cu_px par f r n (par a)) : cu_px par f (cu_push r (par a) a g) n (par a) := by
  obtain ⟨h1, h2, h3, h4⟩ := cu_T_s T ha hd hn
  exact cu_px_cg T n (par a) h1 h2 (by omega) (fun x y hx hy dx dy => cu_lo ha h1 hd hx hy dx dy) h
theorem cu_K_aug (T : cu_T s par d) {f : Int} {S : Nat → Bool} (hS : S s = true) : ∀ n a r, a < 11 → d a = n → n ≤ 10 → cu_K S (cu_aug par f n a r) = cu_K S r - (if S a = true then 0 else f) := by
  intro n
  induction n with
  | zero =>
    intro a r ha hd _
    rw [cu_T_0 T ha hd, if_pos hS]
    show cu_K S r = cu_K S r - 0
    omega
  | succ n ih =>
    intro a r ha hd hn
    obtain ⟨h1, h2, h3, h4⟩ := cu_T_s T ha hd hn
    show cu_K S (cu_aug par f n (par a) (cu_push r (par a) a f)) = _
    rw [ih (par a) _ h1 h2 (by omega), cu_K_push h1 ha]
    generalize (if S a = true then 0 else f) = A
    generalize (if S (par a) = true then 0 else f) = B
    omega
theorem cu_aug_inv (T : cu_T s par d) {f : Int} (h0 : 0 ≤ f) : ∀ n a r, a < 11 → d a = n → n ≤ 10 → cu_NN r → cu_PB r → cu_pl par f r n a → cu_NN (cu_aug par f n a r) ∧ cu_PB (cu_aug par f n a r) := by
  intro n
  induction n with
  | zero => intro a r _ _ _ hN hP _; exact ⟨hN, hP⟩
  | succ n ih =>
    intro a r ha hd hn hN hP hp
    obtain ⟨h1, h2, h3, h4⟩ := cu_T_s T ha hd hn
    exact ih (par a) _ h1 h2 (by omega) (cu_NN_push h1 ha h3 hN h0 hp.1) (cu_PB_push h1 ha h3 hP) (cu_pl_push T ha hd hn hp.2)
theorem cu_pl_K (T : cu_T s par d) {f : Int} {r : Nat → Int} {S : Nat → Bool} (hS : S s = true) (hN : cu_NN r) : ∀ n a, a < 11 → d a = n → n ≤ 10 → S a = false → cu_pl par f r n a → f ≤ cu_K S r := by
  intro n
  induction n with
  | zero =>
    intro a ha hd _ hf _
    rw [cu_T_0 T ha hd, hS] at hf
    exact absurd hf (by decide)
  | succ n ih =>
    intro a ha hd hn hf hp
    obtain ⟨h1, h2, h3, h4⟩ := cu_T_s T ha hd hn
    cases e : S (par a) with
    | false => exact ih (par a) h1 h2 (by omega) e hp.2
    | true => exact Int.le_trans hp.1 (cu_K_ge hN h1 ha (by rw [e, hf]; rfl))
theorem cu_px_pos (T : cu_T s par d) {f : Int} {r : Nat → Int} (hr : ∀ p, p < 11 → d p ≤ 10 → p ≠ s → 0 < r (11 * par p + p)) : ∀ n a, a < 11 → d a = n → n ≤ 10 → cu_px par f r n a → 0 < f := by
  intro n
  induction n with
  | zero => intro a _ _ _ hp; exact absurd hp (fun z => z)
  | succ n ih =>
    intro a ha hd hn hp
    obtain ⟨h1, h2, h3, h4⟩ := cu_T_s T ha hd hn
    rcases hp with hp | hp
    · rw [← hp]; exact hr a ha (by omega) h4
    · exact ih (par a) h1 h2 (by omega) hp
end
/-! heights: a line with room climbs by one at most; the tight lines are counted -/
def cu_V (h : Nat → Nat) (r : Nat → Int) : Prop := ∀ x y, x < 11 → y < 11 → 0 < r (11 * x + y) → h y ≤ h x + 1
def cu_g1 (k : Nat) : Int := if k / 11 ≠ 10 ∧ k % 11 ≠ 9 ∧ k / 11 ≠ k % 11 then 1 else 0
def cu_tf (h : Nat → Nat) (r : Nat → Int) (k : Nat) : Int := if (k / 11 ≠ 10 ∧ k % 11 ≠ 9 ∧ k / 11 ≠ k % 11) ∧ h (k % 11) = h (k / 11) + 1 ∧ 0 < r k then 1 else 0
def cu_tc (h : Nat → Nat) (r : Nat → Int) : Int := cu_sm (cu_tf h r) 121
theorem cu_91 : cu_sm cu_g1 121 = 91 := by decide +kernel
theorem cu_tc_le (h : Nat → Nat) (r : Nat → Int) : cu_tc h r ≤ 91 := by
  have e : cu_sm (cu_tf h r) 121 ≤ cu_sm cu_g1 121 := by
    refine cu_sm_le 121 (fun k hk => ?_)
    unfold cu_tf cu_g1
    by_cases c : k / 11 ≠ 10 ∧ k % 11 ≠ 9 ∧ k / 11 ≠ k % 11
    · rw [if_pos c]
      split
      · exact Int.le_refl 1
      · decide
    · rw [if_neg c, if_neg (fun z => c z.1)]
      exact Int.le_refl 0
  rw [cu_91] at e
  exact e
theorem cu_tc_nn (h : Nat → Nat) (r : Nat → Int) : 0 ≤ cu_tc h r := by
  refine cu_sm_nn 121 (fun k hk => ?_)
  unfold cu_tf
  split
  · decide
  · decide
theorem cu_tf_mono {h : Nat → Nat} {r r' : Nat → Int} {k : Nat} (H : h (k % 11) = h (k / 11) + 1 → 0 < r' k → 0 < r k) : cu_tf h r' k ≤ cu_tf h r k := by
  unfold cu_tf
  split
  · next c => rw [if_pos ⟨c.1, c.2.1, H c.2.1 c.2.2⟩]; exact Int.le_refl 1
  · split
    · decide
    · decide
theorem cu_tf_push {h : Nat → Nat} {r : Nat → Int} {q a : Nat} {f : Int} (hq : q < 11) (ha : a < 11) (ne : q ≠ a) (h0 : 0 ≤ f) (ht : h a = h q + 1) (k : Nat) : cu_tf h (cu_push r q a f) k ≤ cu_tf h r k := by
  refine cu_tf_mono (fun h1 h2 => ?_)
  by_cases e1 : k = 11 * q + a
  · subst e1
    rw [cu_push_f hq ha ne] at h2
    omega
  · by_cases e2 : k = 11 * a + q
    · subst e2
      rw [cu_ix1 hq, cu_ix2 hq] at h1
      omega
    · rw [cu_push_o e1 e2] at h2
      exact h2
theorem cu_tc_push {h : Nat → Nat} {r : Nat → Int} {q a : Nat} {f : Int} (hq : q < 11) (ha : a < 11) (ne : q ≠ a) (h0 : 0 ≤ f) (ht : h a = h q + 1) : cu_tc h (cu_push r q a f) ≤ cu_tc h r :=
  cu_sm_le 121 (fun k _ => cu_tf_push hq ha ne h0 ht k)
theorem cu_tc_pushx {h : Nat → Nat} {r : Nat → Int} {q a : Nat} {f : Int} (hq : q < 11) (ha : a < 11) (ne : q ≠ a) (h0 : 0 < f) (ht : h a = h q + 1) (hr : r (11 * q + a) = f) (q10 : q ≠ 10) (a9 : a ≠ 9) : cu_tc h (cu_push r q a f) + 1 ≤ cu_tc h r := by
  refine cu_sm_lt 121 (fun k _ => cu_tf_push hq ha ne (by omega) ht k) (11 * q + a) (by omega) ?_
  unfold cu_tf
  rw [cu_ix1 ha, cu_ix2 ha, cu_push_f hq ha ne, if_neg (fun z => by omega), if_pos ⟨⟨q10, a9, ne⟩, ht, by omega⟩]
  decide
theorem cu_V_push {h : Nat → Nat} {r : Nat → Int} {q a : Nat} {f : Int} (hq : q < 11) (ha : a < 11) (ne : q ≠ a) (h0 : 0 ≤ f) (ht : h a = h q + 1) (hV : cu_V h r) : cu_V h (cu_push r q a f) := by
  intro x y hx hy hp
  by_cases e1 : x = q ∧ y = a
  · rw [e1.1, e1.2]; omega
  · by_cases e2 : x = a ∧ y = q
    · rw [e2.1, e2.2]; omega
    · rw [cu_push_o (by omega) (by omega)] at hp
      exact hV x y hx hy hp
section
variable {s : Nat} {par d h : Nat → Nat} {f : Int}
theorem cu_aug_V (T : cu_T s par d) (h0 : 0 ≤ f) : ∀ n a r, a < 11 → d a = n → n ≤ 10 → cu_pt par h n a → cu_V h r → cu_V h (cu_aug par f n a r) := by
  intro n
  induction n with
  | zero => intro a r _ _ _ _ hV; exact hV
  | succ n ih =>
    intro a r ha hd hn hp hV
    obtain ⟨h1, h2, h3, h4⟩ := cu_T_s T ha hd hn
    exact ih (par a) _ h1 h2 (by omega) hp.2 (cu_V_push h1 ha h3 h0 hp.1 hV)
theorem cu_aug_tc (T : cu_T s par d) (h0 : 0 ≤ f) : ∀ n a r, a < 11 → d a = n → n ≤ 10 → cu_pt par h n a → cu_tc h (cu_aug par f n a r) ≤ cu_tc h r := by
  intro n
  induction n with
  | zero => intro a r _ _ _ _; exact Int.le_refl _
  | succ n ih =>
    intro a r ha hd hn hp
    obtain ⟨h1, h2, h3, h4⟩ := cu_T_s T ha hd hn
    exact Int.le_trans (ih (par a) (cu_push r (par a) a f) h1 h2 (by omega) hp.2) (cu_tc_push h1 ha h3 h0 hp.1)
theorem cu_aug_tx (T : cu_T 9 par d) (h0 : 0 < f) : ∀ n a r, a < 11 → d a = n → n ≤ 10 → n ≤ d 10 → cu_pt par h n a → cu_px par f r n a → cu_tc h (cu_aug par f n a r) + 1 ≤ cu_tc h r := by
  intro n
  induction n with
  | zero => intro a r _ _ _ _ _ hx; exact absurd hx (fun z => z)
  | succ n ih =>
    intro a r ha hd hn hl hp hx
    obtain ⟨h1, h2, h3, h4⟩ := cu_T_s T ha hd hn
    have q10 : par a ≠ 10 := fun e => by rw [e] at h2; omega
    show cu_tc h (cu_aug par f n (par a) (cu_push r (par a) a f)) + 1 ≤ cu_tc h r
    rcases hx with hx | hx
    · have e1 := cu_aug_tc (h := h) T (Int.le_of_lt h0) n (par a) (cu_push r (par a) a f) h1 h2 (by omega) hp.2
      have e2 := cu_tc_pushx h1 ha h3 h0 hp.1 hx q10 h4
      omega
    · have e1 := ih (par a) (cu_push r (par a) a f) h1 h2 (by omega) (by omega) hp.2 (cu_px_push T ha hd hn hx)
      have e2 := cu_tc_push (r := r) h1 ha h3 (Int.le_of_lt h0) hp.1
      omega
theorem cu_pt_d (T : cu_T s par d) : ∀ n a, a < 11 → d a = n → n ≤ 10 → cu_pt par d n a := by
  intro n
  induction n with
  | zero => intro a _ _ _; exact True.intro
  | succ n ih =>
    intro a ha hd hn
    obtain ⟨h1, h2, h3, h4⟩ := cu_T_s T ha hd hn
    exact ⟨by omega, ih (par a) h1 h2 (by omega)⟩
theorem cu_h_le (T : cu_T s par d) {r : Nat → Int} (hr : ∀ p, p < 11 → d p ≤ 10 → p ≠ s → 0 < r (11 * par p + p)) (hV : cu_V h r) (hs : h s = 0) : ∀ n a, a < 11 → d a = n → n ≤ 10 → h a ≤ n := by
  intro n
  induction n with
  | zero => intro a ha hd _; rw [cu_T_0 T ha hd, hs]; exact Nat.le_refl 0
  | succ n ih =>
    intro a ha hd hn
    obtain ⟨h1, h2, h3, h4⟩ := cu_T_s T ha hd hn
    have e1 := ih (par a) h1 h2 (by omega)
    have e2 := hV (par a) a h1 ha (hr a ha (by omega) h4)
    omega
theorem cu_pt_h (T : cu_T s par d) {r : Nat → Int} (hr : ∀ p, p < 11 → d p ≤ 10 → p ≠ s → 0 < r (11 * par p + p)) (hV : cu_V h r) (hs : h s = 0) : ∀ n a, a < 11 → d a = n → n ≤ 10 → h a = n → cu_pt par h n a := by
  intro n
  induction n with
  | zero => intro a _ _ _ _; exact True.intro
  | succ n ih =>
    intro a ha hd hn he
    obtain ⟨h1, h2, h3, h4⟩ := cu_T_s T ha hd hn
    have e1 := cu_h_le T hr hV hs n (par a) h1 h2 (by omega)
    have e2 := hV (par a) a h1 ha (hr a ha (by omega) h4)
    exact ⟨by omega, ih (par a) h1 h2 (by omega) (by omega)⟩
end
/-- w ways have been gone, and at most 910 - w are left -/
def cu_EK (w : Nat) (r : Nat → Int) : Prop := ∃ h : Nat → Nat, cu_V h r ∧ h 9 = 0 ∧ h 10 ≤ 10 ∧ (10 - (h 10 : Int)) * 91 + cu_tc h r + w ≤ 910
theorem cu_EK_0 (r : Nat → Int) : cu_EK 0 r := by
  refine ⟨fun _ => 0, fun x y _ _ _ => by show 0 ≤ 0 + 1; omega, rfl, by show 0 ≤ 10; omega, ?_⟩
  have e : cu_tc (fun _ => 0) r = 0 := cu_sm_0 121 (fun k _ => by unfold cu_tf; exact if_neg (fun z => Nat.noConfusion z.2.1))
  rw [e]
  decide
theorem cu_EK_w {w : Nat} {r : Nat → Int} (E : cu_EK w r) : w ≤ 910 := by
  obtain ⟨h, _, _, h10, hm⟩ := E
  have e := cu_tc_nn h r
  omega
theorem cu_EK_s {w : Nat} {r : Nat → Int} {par d : Nat → Nat} {f : Int} (T : cu_T 9 par d) (hV : cu_V d r) (hr : ∀ p, p < 11 → d p ≤ 10 → p ≠ 9 → 0 < r (11 * par p + p)) (hd : d 10 ≤ 10) (E : cu_EK w r) (f0 : 0 < f) (hx : cu_px par f r (d 10) 10) : cu_EK (w + 1) (cu_aug par f (d 10) 10 r) := by
  obtain ⟨h, hVh, h9, h10, hm⟩ := E
  have hle := cu_h_le T hr hVh h9 (d 10) 10 (by omega) rfl hd
  by_cases e : h 10 = d 10
  · have hp := cu_pt_h T hr hVh h9 (d 10) 10 (by omega) rfl hd e
    have ht := cu_aug_tx (h := h) T f0 (d 10) 10 r (by omega) rfl hd (Nat.le_refl _) hp hx
    exact ⟨h, cu_aug_V T (Int.le_of_lt f0) (d 10) 10 r (by omega) rfl hd hp hVh, h9, h10, by omega⟩
  · have hp := cu_pt_d T (d 10) 10 (by omega) rfl hd
    have ht := cu_aug_tx (h := d) T f0 (d 10) 10 r (by omega) rfl hd (Nat.le_refl _) hp hx
    have hc := cu_tc_le d r
    have hn := cu_tc_nn h r
    exact ⟨d, cu_aug_V T (Int.le_of_lt f0) (d 10) 10 r (by omega) rfl hd hp hV, T.2.1, hd, by omega⟩
/-! the search's answer, and the end of the filling -/
def cu_SR (s : Nat) (r : Nat → Int) (rf : Nat → Int32) (par d : Nat → Nat) : Prop :=
  cu_T s par d ∧ cu_V d r ∧ (∀ p, p < 11 → d p ≤ 10 → p ≠ s → 0 < r (11 * par p + p)) ∧ (∀ x y, x < 11 → y < 11 → d x ≤ 10 → 0 < r (11 * x + y) → d y ≤ 10) ∧ (∀ p, p < 11 → d p ≤ 10 → rf p = nI (par p)) ∧ (∀ p, p < 11 → ¬ d p ≤ 10 → rf p = -1)
/-- no room leads out of S -/
def cu_Cl (S : Nat → Bool) (r : Nat → Int) : Prop := ∀ x y, x < 11 → y < 11 → S x = true → S y = false → r (11 * x + y) = 0
theorem cu_Cl_K {S : Nat → Bool} {r : Nat → Int} (hN : cu_NN r) : cu_K S r = 0 ↔ cu_Cl S r := by
  constructor
  · intro h x y hx hy h1 h2
    have e := cu_K_ge (S := S) hN hx hy (by rw [h1, h2]; rfl)
    have e2 := hN (11 * x + y) (by omega)
    omega
  · exact fun h => cu_K_z h
theorem cu_SR_in {s : Nat} {r : Nat → Int} {rf : Nat → Int32} {par d : Nat → Nat} (H : cu_SR s r rf par d) {S : Nat → Bool} (hC : cu_Cl S r) (hs : S s = true) : ∀ n a, a < 11 → d a = n → n ≤ 10 → S a = true := by
  intro n
  induction n with
  | zero => intro a ha hd _; rw [cu_T_0 H.1 ha hd]; exact hs
  | succ n ih =>
    intro a ha hd hn
    obtain ⟨h1, h2, h3, h4⟩ := cu_T_s H.1 ha hd hn
    have e1 := ih (par a) h1 h2 (by omega)
    have e2 := H.2.2.1 a ha (by omega) h4
    cases e3 : S a with
    | true => rfl
    | false =>
      have e4 := hC (par a) a h1 ha e1 e3
      omega
/-- the reached points -/
def cu_RS (d : Nat → Nat) : Nat → Bool := fun p => decide (d p ≤ 10)
theorem cu_RS_Cl {s : Nat} {r : Nat → Int} {rf : Nat → Int32} {par d : Nat → Nat} (H : cu_SR s r rf par d) (hN : cu_NN r) : cu_Cl (cu_RS d) r := by
  intro x y hx hy h1 h2
  have e1 : d x ≤ 10 := of_decide_eq_true h1
  have e2 : ¬ d y ≤ 10 := of_decide_eq_false h2
  have e3 := hN (11 * x + y) (by omega)
  by_cases e4 : 0 < r (11 * x + y)
  · exact absurd (H.2.2.2.1 x y hx hy e1 e4) e2
  · omega
def cu_Z (S : Nat → Bool) : Prop := S 9 = true ∧ S 10 = false
/-- the end of a filling: c the rooms at its start, r those at its end, t the flow -/
def cu_FE (c r : Nat → Int) (t : Int) (rf : Nat → Int32) : Prop :=
  (∀ S, cu_Z S → cu_K S r + t = cu_K S c) ∧ cu_NN r ∧ ∃ par d, cu_SR 9 r rf par d ∧ ¬ d 10 ≤ 10
theorem cu_FE_le {c r : Nat → Int} {t : Int} {rf : Nat → Int32} (F : cu_FE c r t rf) : ∀ S, cu_Z S → t ≤ cu_K S c := by
  intro S hS
  have e1 := F.1 S hS
  have e2 := cu_K_nn (S := S) F.2.1
  omega
theorem cu_FE_iff {c r : Nat → Int} {t : Int} {rf : Nat → Int32} (F : cu_FE c r t rf) {S : Nat → Bool} (hS : cu_Z S) : cu_K S c = t ↔ cu_Cl S r := by
  rw [← cu_Cl_K F.2.1, ← F.1 S hS]
  omega
theorem cu_FE_Z {r : Nat → Int} {rf : Nat → Int32} {par d : Nat → Nat} (H : cu_SR 9 r rf par d) (h : ¬ d 10 ≤ 10) : cu_Z (cu_RS d) :=
  ⟨decide_eq_true (by rw [H.1.2.1]; omega), decide_eq_false h⟩
theorem cu_FE_ex {c r : Nat → Int} {t : Int} {rf : Nat → Int32} (F : cu_FE c r t rf) : ∃ S, cu_Z S ∧ cu_K S c = t := by
  obtain ⟨par, d, H, h⟩ := F.2.2
  exact ⟨cu_RS d, cu_FE_Z H h, (cu_FE_iff F (cu_FE_Z H h)).mpr (cu_RS_Cl H F.2.1)⟩
end
section
/-! the search -/
def cu_I (a : Nat → Int32) : Nat → Int := fun k => (a k).toInt
theorem cu_idx (a b : Nat) : (11 : Int32) * nI a + nI b = nI (11 * a + b) := by
  show nI 11 * nI a + nI b = _
  rw [pk_mul, nI_add]
def cu_u (f : Nat → Nat) (k v : Nat) : Nat → Nat := fun j => if j = k then v else f j
theorem cu_u_s (f : Nat → Nat) (k v : Nat) : cu_u f k v k = v := if_pos rfl
theorem cu_u_n (f : Nat → Nat) {k j : Nat} (v : Nat) (h : j ≠ k) : cu_u f k v j = f j := if_neg h
def cu_inq (e : Nat) (c : Nat → Nat) (p : Nat) : Prop := ∃ i, i < e ∧ c i = p
def cu_cn (rf : Nat → Int32) (p : Nat) : Int := if rf p < 0 then 1 else 0
theorem cu_cn_nn (rf : Nat → Int32) (p : Nat) : 0 ≤ cu_cn rf p := by
  unfold cu_cn
  split <;> decide
/-- the search under way: queue c of length e, k of them done; depths d (11: not reached), parents par -/
def cu_BI (s k e : Nat) (r : Nat → Int) (rf qu : Nat → Int32) (c par d : Nat → Nat) : Prop :=
  (s < 11 ∧ d s = 0 ∧ k ≤ e ∧ 1 ≤ e ∧ e ≤ 11 ∧ (e : Int) + cu_sm (cu_cn rf) 11 = 11) ∧
  (∀ i, i < e → qu i = nI (c i) ∧ c i < 11 ∧ d (c i) ≤ i) ∧
  (∀ p, p < 11 → d p ≤ 10 → cu_inq e c p ∧ rf p = nI (par p) ∧ par p < 11) ∧
  (∀ p, p < 11 → ¬ d p ≤ 10 → d p = 11 ∧ rf p = -1) ∧
  (∀ p, p < 11 → d p ≤ 10 → p ≠ s → d (par p) + 1 = d p ∧ 0 < r (11 * par p + p)) ∧
  (∀ i j, i ≤ j → j < e → d (c i) ≤ d (c j)) ∧
  (∀ i, i < e → k < e → d (c i) ≤ d (c k) + 1) ∧
  (∀ i, i < k → ∀ y, y < 11 → 0 < r (11 * c i + y) → d y ≤ 10 ∧ d y ≤ d (c i) + 1)
section
variable {s k e p : Nat} {r : Nat → Int} {rf qu : Nat → Int32} {c par d : Nat → Nat}
theorem cu_BI_lt (B : cu_BI s k e r rf qu c par d) (hp : p < 11) (hd : ¬ d p ≤ 10) : e < 11 := by
  obtain ⟨⟨_, _, _, _, _, b6⟩, _, _, a3, _⟩ := B
  have h1 := cu_sm_ge 11 (f := cu_cn rf) (fun i _ => cu_cn_nn rf i) p hp
  have h2 : cu_cn rf p = 1 := by
    unfold cu_cn
    rw [(a3 p hp hd).2]
    exact if_pos (by decide)
  omega
theorem cu_BI_add (B : cu_BI s k e r rf qu c par d) (hk : k < e) (hp : p < 11) (hd : ¬ d p ≤ 10) (hr : 0 < r (11 * c k + p)) :
    cu_BI s k (e + 1) r (upd rf p (nI (c k))) (upd qu e (nI p)) (cu_u c e p) (cu_u par p (c k)) (cu_u d p (d (c k) + 1)) := by
  have he := cu_BI_lt B hp hd
  obtain ⟨⟨b1, b2, b3, b4, b5, b6⟩, a1, a2, a3, a5, a6, a7, a8⟩ := B
  have hck := a1 k hk
  have cne : ∀ i, i < e → c i ≠ p := fun i hi z => by
    have := (a1 i hi).2.2
    rw [z] at this
    omega
  have hc : ∀ i, i < e → cu_u c e p i = c i := fun i hi => cu_u_n c p (by omega)
  have hce : cu_u c e p e = p := cu_u_s c e p
  have hdn : ∀ q, q ≠ p → cu_u d p (d (c k) + 1) q = d q := fun q hq => cu_u_n d _ hq
  have hdp : cu_u d p (d (c k) + 1) p = d (c k) + 1 := cu_u_s d p _
  have hdc : ∀ i, i < e → cu_u d p (d (c k) + 1) (cu_u c e p i) = d (c i) := fun i hi => by rw [hc i hi, hdn _ (cne i hi)]
  have hpn : ∀ q, q ≠ p → cu_u par p (c k) q = par q := fun q hq => cu_u_n par _ hq
  have hpp : cu_u par p (c k) p = c k := cu_u_s par p _
  have sp : s ≠ p := fun z => by rw [z] at b2; omega
  refine ⟨⟨b1, by rw [hdn s sp]; exact b2, by omega, by omega, by omega, ?_⟩, ?_, ?_, ?_, ?_, ?_, ?_, ?_⟩
  · have h1 := cu_sm_1 (f := cu_cn rf) (g := cu_cn (upd rf p (nI (c k)))) (k := p) (fun i hi => by unfold cu_cn; rw [pk_un hi]) 11 hp
    have h2 : cu_cn rf p = 1 := by
      unfold cu_cn
      rw [(a3 p hp hd).2]
      exact if_pos (by decide)
    have h3 : cu_cn (upd rf p (nI (c k))) p = 0 := by
      unfold cu_cn
      rw [pk_us]
      exact if_neg (nI_pos (by omega))
    omega
  · intro i hi
    by_cases z : i = e
    · rw [z, pk_us, hce, hdp]
      exact ⟨rfl, hp, by omega⟩
    · have hi' : i < e := by omega
      rw [pk_un z, hdc i hi', hc i hi']
      exact a1 i hi'
  · intro q hq hdq
    by_cases z : q = p
    · rw [z, pk_us, hpp]
      exact ⟨⟨e, by omega, hce⟩, rfl, hck.2.1⟩
    · rw [hdn q z] at hdq
      obtain ⟨⟨i, hi, ei⟩, h2, h3⟩ := a2 q hq hdq
      rw [pk_un z, hpn q z]
      exact ⟨⟨i, by omega, by rw [hc i hi]; exact ei⟩, h2, h3⟩
  · intro q hq hdq
    have z : q ≠ p := fun z => by
      rw [z, hdp] at hdq
      have := hck.2.2
      omega
    rw [hdn q z] at hdq
    rw [hdn q z, pk_un z]
    exact a3 q hq hdq
  · intro q hq hdq hqs
    by_cases z : q = p
    · rw [z, hpp, hdp, hdn _ (cne k hk)]
      exact ⟨rfl, hr⟩
    · rw [hdn q z] at hdq
      obtain ⟨h1, h2⟩ := a5 q hq hdq hqs
      have z2 : par q ≠ p := fun z2 => by
        rw [z2] at h1
        omega
      rw [hpn q z, hdn q z, hdn _ z2]
      exact ⟨h1, h2⟩
  · intro i j hij hj
    by_cases z : j = e
    · rw [z, hce, hdp]
      by_cases z2 : i = e
      · rw [z2, hce, hdp]
        exact Nat.le_refl _
      · rw [hdc i (by omega)]
        exact a7 i (by omega) hk
    · rw [hdc i (by omega), hdc j (by omega)]
      exact a6 i j hij (by omega)
  · intro i hi _
    rw [hdc k hk]
    by_cases z : i = e
    · rw [z, hce, hdp]
      exact Nat.le_refl _
    · rw [hdc i (by omega)]
      exact a7 i (by omega) hk
  · intro i hi y hy hry
    rw [hc i (by omega)] at hry
    obtain ⟨h1, h2⟩ := a8 i hi y hy hry
    have z : y ≠ p := fun z => by
      rw [z] at h1
      exact hd h1
    rw [hdc i (by omega), hdn y z]
    exact ⟨h1, h2⟩
theorem cu_BI_next (B : cu_BI s k e r rf qu c par d) (hk : k < e) (hy : ∀ y, y < 11 → 0 < r (11 * c k + y) → d y ≤ 10) : cu_BI s (k + 1) e r rf qu c par d := by
  obtain ⟨⟨b1, b2, b3, b4, b5, b6⟩, a1, a2, a3, a5, a6, a7, a8⟩ := B
  refine ⟨⟨b1, b2, by omega, b4, b5, b6⟩, a1, a2, a3, a5, a6, fun i hi hk1 => ?_, fun i hi y hy1 hr => ?_⟩
  · have h1 := a7 i hi hk
    have h2 := a6 k (k + 1) (by omega) hk1
    omega
  · by_cases z : i = k
    · rw [z] at hr ⊢
      have h1 := hy y hy1 hr
      obtain ⟨⟨j, hj, ej⟩, _⟩ := a2 y hy1 h1
      have h2 := a7 j hj hk
      rw [ej] at h2
      exact ⟨h1, h2⟩
    · exact a8 i (by omega) y hy1 hr
theorem cu_BI_end (B : cu_BI s k e r rf qu c par d) (hk : e ≤ k) : cu_SR s r rf par d := by
  obtain ⟨⟨b1, b2, b3, b4, b5, b6⟩, a1, a2, a3, a5, a6, a7, a8⟩ := B
  have cl : ∀ x y, x < 11 → y < 11 → d x ≤ 10 → 0 < r (11 * x + y) → d y ≤ 10 ∧ d y ≤ d x + 1 := by
    intro x y hx hy hd hr
    obtain ⟨⟨i, hi, ei⟩, _⟩ := a2 x hx hd
    have h := a8 i (by omega) y hy (by rw [ei]; exact hr)
    rw [ei] at h
    exact h
  refine ⟨⟨b1, b2, fun p hp hd hs => ⟨(a2 p hp hd).2.2, (a5 p hp hd hs).1⟩⟩, fun x y hx hy hr => ?_, fun p hp hd hs => (a5 p hp hd hs).2, fun x y hx hy hd hr => (cl x y hx hy hd hr).1, fun p hp hd => (a2 p hp hd).2.1, fun p hp hd => (a3 p hp hd).2⟩
  by_cases h : d x ≤ 10
  · exact (cl x y hx hy h hr).2
  · have h1 := (a3 x hx h).1
    by_cases h2 : d y ≤ 10
    · omega
    · have h3 := (a3 y hy h2).1
      omega
theorem cu_BI_0 (hs : s < 11) (h : ∀ p, p < 11 → rf p = -1) : cu_BI s 0 1 r (upd rf s (nI s)) (upd qu 0 (nI s)) (fun _ => s) (fun _ => s) (cu_u (fun _ => 11) s 0) := by
  have ds : cu_u (fun _ => 11) s 0 s = 0 := cu_u_s _ s 0
  have dn : ∀ q, q ≠ s → cu_u (fun _ => 11) s 0 q = 11 := fun q hq => cu_u_n _ 0 hq
  have dr : ∀ q, cu_u (fun _ => 11) s 0 q ≤ 10 → q = s := fun q hq => by
    by_cases z : q = s
    · exact z
    · rw [dn q z] at hq
      omega
  refine ⟨⟨hs, ds, by omega, by omega, by omega, ?_⟩, fun i hi => ?_, fun p hp hd => ?_, fun p hp hd => ?_, fun p hp hd hn => absurd (dr p hd) hn, fun i j _ _ => Nat.le_refl _, fun i _ _ => Nat.le_succ _, fun i hi => absurd hi (by omega)⟩
  · have h1 := cu_sm_1 (f := cu_cn rf) (g := cu_cn (upd rf s (nI s))) (k := s) (fun i hi => by unfold cu_cn; rw [pk_un hi]) 11 hs
    have h2 : ∀ i, i < 11 → cu_cn rf i = 1 := fun i hi => by
      unfold cu_cn
      rw [h i hi]
      exact if_pos (by decide)
    have h3 : cu_cn (upd rf s (nI s)) s = 0 := by
      unfold cu_cn
      rw [pk_us]
      exact if_neg (nI_pos (by omega))
    have h4 : cu_sm (cu_cn rf) 11 = cu_sm (fun _ => 1) 11 := cu_sm_cg 11 h2
    have h5 : cu_sm (fun _ => 1) 11 = 11 := by decide
    have h6 := h2 s hs
    omega
  · have z : i = 0 := by omega
    rw [z]
    exact ⟨pk_us, hs, by rw [ds]; exact Nat.le_refl _⟩
  · have z := dr p hd
    rw [z]
    exact ⟨⟨0, by omega, rfl⟩, pk_us, hs⟩
  · have z : p ≠ s := fun z => hd (by rw [z, ds]; omega)
    rw [dn p z, pk_un z]
    exact ⟨rfl, h p hp⟩
end
section
variable {s k : Nat} {qe : Int32} {cz co th tI tJ tU tV rm : Nat → Int32} {post : SX → Prop}
theorem cu_s58 {J : Int32 → Int32 → (Nat → Int32) → (Nat → Int32) → (Nat → Int32) → (Nat → Int32) → (Nat → Int32) → (Nat → Int32) → (Nat → Int32) → (Nat → Int32) → (Nat → Int32) → (Nat → Int32) → Prop}
    (hJ : ∀ e rf qu c par d, cu_BI s (k + 1) e (cu_I rm) rf qu c par d → J (nI (k + 1)) (nI e) cz co th tI tJ tU tV rm rf qu) :
    ∀ n p e rf qu c par d, 11 - p < n → p ≤ 11 → k < e → cu_BI s k e (cu_I rm) rf qu c par d → (∀ y, y < p → 0 < cu_I rm (11 * c k + y) → d y ≤ 10) → wX_search_58 post J (nI k) n (nI p) (nI e) cz co th tI tJ tU tV rm rf qu := by
  intro n
  induction n with
  | zero => intro p e rf qu c par d hn; omega
  | succ n ih =>
    intro p e rf qu c par d hn hp hk B hy
    have hB := B
    obtain ⟨⟨b1, b2, b3, b4, b5, b6⟩, a1, a2, a3, a5, a6, a7, a8⟩ := hB
    rw [wX_search_58]
    by_cases h11 : p = 11
    · subst h11
      exact br_t (by decide) (nm_r (nI_1 k) (hJ e rf qu c par d (cu_BI_next B hk hy)))
    · have ck : (nI k).toNatClampNeg = k := nI_clamp (by omega)
      have cp : (nI p).toNatClampNeg = p := nI_clamp (by omega)
      have ce : (nI e).toNatClampNeg = e := nI_clamp (by omega)
      have qk := a1 k hk
      have ix : (11 : Int32) * nI (c k) + nI p = nI (11 * c k + p) := cu_idx _ _
      have cx : (nI (11 * c k + p)).toNatClampNeg = 11 * c k + p := nI_clamp (by omega)
      have vp : vp_in (nI p) 11 := vp_in_nI (by omega) (by decide)
      have vk : vp_in (nI k) 11 := vp_in_nI (by omega) (by decide)
      refine br_f (nI_ge (b := 11) (by omega) (by decide)) ⟨vp, ?_⟩
      rw [cp, ck, ce, qk.1, ix, cx]
      by_cases hd : d p ≤ 10
      · obtain ⟨_, e2, e3⟩ := a2 p (by omega) hd
        refine br_t (by rw [e2]; exact nI_pos' (by omega)) (nm_r (nI_1 p) (ih (p + 1) e rf qu c par d (by omega) (by omega) hk B (fun y hyp hr => ?_)))
        by_cases z : y = p
        · rw [z]; exact hd
        · exact hy y (by omega) hr
      · obtain ⟨e1, e2⟩ := a3 p (by omega) hd
        refine br_f (by rw [e2]; decide) ⟨vk, vp_in_nI (by omega) (by decide), ?_⟩
        by_cases hr : 0 < cu_I rm (11 * c k + p)
        · have he := cu_BI_lt B (by omega) hd
          refine br_f (fun z => ?_) ⟨vk, vp, nm_e ⟨vp_in_nI he (by decide), nm_e (nm_r (nI_1 e) (nm_r (nI_1 p) (ih (p + 1) (e + 1) _ _ _ _ _ (by omega) (by omega) (by omega) (cu_BI_add B hk (by omega) hd hr) (fun y hyp hry => ?_))))⟩⟩
          · rw [Int32.le_iff_toInt_le, Int32.toInt_zero] at z
            have z2 : 0 < (rm (11 * c k + p)).toInt := hr
            omega
          · rw [cu_u_n c p (by omega)] at hry
            by_cases z : y = p
            · rw [z, cu_u_s]
              have := qk.2.2
              omega
            · rw [cu_u_n d _ z]
              exact hy y (by omega) hry
        · refine br_t ?_ (nm_r (nI_1 p) (ih (p + 1) e rf qu c par d (by omega) (by omega) hk B (fun y hyp hry => ?_)))
          · rw [Int32.le_iff_toInt_le, Int32.toInt_zero]
            have z2 : ¬ 0 < (rm (11 * c k + p)).toInt := hr
            omega
          · by_cases z : y = p
            · rw [z] at hry
              exact absurd hry hr
            · exact hy y (by omega) hry
theorem cu_s42 (hpost : ∀ e rf qu par d, cu_SR s (cu_I rm) rf par d → post (e, cz, co, th, tI, tJ, tU, tV, rm, rf, qu)) :
    ∀ n k e rf qu c par d, 11 - k < n → cu_BI s k e (cu_I rm) rf qu c par d → wX_search_42 post n (nI k) (nI e) cz co th tI tJ tU tV rm rf qu := by
  intro n
  induction n with
  | zero => intro k e rf qu c par d hn; omega
  | succ n ih =>
    intro k e rf qu c par d hn B
    have hk1 : k ≤ e := B.1.2.2.1
    have he : e ≤ 11 := B.1.2.2.2.2.1
    rw [wX_search_42]
    by_cases h : e ≤ k
    · exact br_t (nI_le h (by omega)) (hpost _ _ _ _ _ (cu_BI_end B h))
    · refine br_f (nI_ge (by omega) (by omega)) (br_f (nI_ge (b := 11) (by omega) (by decide)) ⟨12, ?_⟩)
      exact cu_s58 (fun e' rf' qu' c' par' d' B' => ih (k + 1) e' rf' qu' c' par' d' (by omega) B') 12 0 e rf qu c par d (by omega) (by omega) (by omega) B (fun y hy => absurd hy (by omega))
theorem cu_s2 {qu : Nat → Int32} (hs : s < 11) (hpost : ∀ e rf qu par d, cu_SR s (cu_I rm) rf par d → post (e, cz, co, th, tI, tJ, tU, tV, rm, rf, qu)) :
    ∀ n p rf, 11 - p < n → p ≤ 11 → (∀ q, q < p → rf q = -1) → wX_search_2 post (nI s) qe n (nI p) cz co th tI tJ tU tV rm rf qu := by
  intro n
  induction n with
  | zero => intro p rf hn; omega
  | succ n ih =>
    intro p rf hn hp h
    rw [wX_search_2]
    dsimp only
    by_cases h11 : p = 11
    · subst h11
      have cs : (nI s).toNatClampNeg = s := nI_clamp (by omega)
      rw [cs]
      exact br_t (by decide) ⟨vp_in_nI hs (by decide), nm_e (nm_e ⟨12, cu_s42 hpost 12 0 1 _ _ _ _ _ (by omega) (cu_BI_0 hs h)⟩)⟩
    · have cp : (nI p).toNatClampNeg = p := nI_clamp (by omega)
      rw [cp]
      refine br_f (nI_ge (b := 11) (by omega) (by decide)) ⟨vp_in_nI (by omega) (by decide), nm_e (nm_r (nI_1 p) (ih (p + 1) _ (by omega) (by omega) (fun q hq => ?_)))⟩
      by_cases z : q = p
      · rw [z, pk_us]
      · rw [pk_un z]
        exact h q (by omega)
theorem cu_search {rf qu : Nat → Int32} (hs : s < 11) (hpost : ∀ e rf qu par d, cu_SR s (cu_I rm) rf par d → post (e, cz, co, th, tI, tJ, tU, tV, rm, rf, qu)) : wpX_search post (qe, cz, co, th, tI, tJ, tU, tV, rm, rf, qu) (nI s) := by
  show ∃ n2 : Nat, wX_search_2 post (nI s) qe n2 0 cz co th tI tJ tU tV rm rf qu
  exact ⟨12, cu_s2 hs hpost 12 0 rf (by omega) (by omega) (fun q hq => absurd hq (by omega))⟩
end
end
section
/-! the narrowest line of a way; the filling -/
theorem cu_add {x y : Int32} (h1 : -2000000000 ≤ x.toInt + y.toInt) (h2 : x.toInt + y.toInt ≤ 2000000000) : (x + y).toInt = x.toInt + y.toInt := by
  rw [Int32.toInt_add]
  exact Int.bmod_eq_of_le (by omega) (by omega)
theorem cu_sub {x y : Int32} (h1 : -2000000000 ≤ x.toInt - y.toInt) (h2 : x.toInt - y.toInt ≤ 2000000000) : (x - y).toInt = x.toInt - y.toInt := by
  rw [Int32.toInt_sub]
  exact Int.bmod_eq_of_le (by omega) (by omega)
theorem cu_I_upd {a : Nat → Int32} {k : Nat} {v : Int32} {f : Int} (h : v.toInt = (a k).toInt + f) : cu_I (upd a k v) = cu_p1 (cu_I a) k f := by
  funext j
  by_cases z : j = k
  · rw [z, cu_p1_s]
    show (upd a k v k).toInt = (a k).toInt + f
    rw [pk_us, h]
  · rw [cu_p1_o _ _ z]
    show (upd a k v j).toInt = (a j).toInt
    rw [pk_un z]
theorem cu_I_push {rm : Nat → Int32} {q a : Nat} {f : Int32} (hq : q < 11) (ha : a < 11) (ne : q ≠ a) (hN : cu_NN (cu_I rm)) (hP : cu_PB (cu_I rm)) (h0 : 0 ≤ f.toInt) (hf : f.toInt ≤ cu_I rm (11 * q + a)) :
    cu_I (upd (upd rm (11 * q + a) (rm (11 * q + a) - f)) (11 * a + q) (upd rm (11 * q + a) (rm (11 * q + a) - f) (11 * a + q) + f)) = cu_push (cu_I rm) q a f.toInt := by
  have e1 : 0 ≤ (rm (11 * q + a)).toInt := hN (11 * q + a) (by omega)
  have e2 : 0 ≤ (rm (11 * a + q)).toInt := hN (11 * a + q) (by omega)
  have e3 : (rm (11 * q + a)).toInt + (rm (11 * a + q)).toInt ≤ 2000000 := hP q a hq ha
  have e4 : f.toInt ≤ (rm (11 * q + a)).toInt := hf
  have e5 : upd rm (11 * q + a) (rm (11 * q + a) - f) (11 * a + q) = rm (11 * a + q) := pk_un (by omega)
  rw [cu_I_upd (f := f.toInt) (by rw [e5]; exact cu_add (by omega) (by omega)), cu_I_upd (f := -f.toInt) (by rw [cu_sub (by omega) (by omega)]; omega)]
  rfl
section
variable {qe : Int32} {cz co th tI tJ tU tV rm rf qu : Nat → Int32} {par d : Nat → Nat}
theorem cu_n8 {post : Int32 → Prop} (H : cu_SR 9 (cu_I rm) rf par d) : ∀ n fuel a (m : Int32) stp, a < 11 → d a = n → n ≤ 10 → stp + n ≤ 10 → n < fuel → (∀ f : Int32, cu_pl par f.toInt (cu_I rm) n a → f.toInt ≤ m.toInt → (f = m ∨ cu_px par f.toInt (cu_I rm) n a) → post f) → wX_narrowest_8 post qe cz co th tI tJ tU tV rm rf qu fuel m (nI a) (nI stp) := by
  intro n
  induction n with
  | zero =>
    intro fuel a m stp ha hd _ hs hf hp
    obtain ⟨fu, rfl⟩ : ∃ fu, fuel = fu + 1 := ⟨fuel - 1, by omega⟩
    have e := cu_T_0 H.1 ha hd
    subst e
    rw [wX_narrowest_8]
    exact br_f (nI_ge (b := 11) (by omega) (by decide)) (br_t rfl (hp m True.intro (Int.le_refl _) (Or.inl rfl)))
  | succ n ih =>
    intro fuel a m stp ha hd hn hs hf hp
    obtain ⟨fu, rfl⟩ : ∃ fu, fuel = fu + 1 := ⟨fuel - 1, by omega⟩
    obtain ⟨h1, h2, h3, h4⟩ := cu_T_s H.1 ha hd hn
    have er : rf a = nI (par a) := H.2.2.2.2.1 a ha (by omega)
    have ca : (nI a).toNatClampNeg = a := nI_clamp (by omega)
    have ix : (11 : Int32) * nI (par a) + nI a = nI (11 * par a + a) := cu_idx _ _
    have cx : (nI (11 * par a + a)).toNatClampNeg = 11 * par a + a := nI_clamp (by omega)
    have va : vp_in (nI a) 11 := vp_in_nI ha (by decide)
    have na : ¬ nI a = 9 := fun z => h4 ((nI_eq (b := 9) (by omega) (by decide)).mp z)
    rw [wX_narrowest_8]
    refine br_f (nI_ge (b := 11) (by omega) (by decide)) (br_f na ⟨va, ?_⟩)
    rw [ca, er, ix, cx]
    refine ⟨vp_in_nI (by omega) (by decide), nm_e (br_c (fun hc => ?_) (fun hc => ?_))⟩
    · refine And.intro va ?_
      rw [ca, er]
      rw [Int32.le_iff_toInt_le] at hc
      refine nm_e (nm_r (nI_1 stp) (ih fu (par a) m (stp + 1) h1 h2 (by omega) (by omega) (by omega) (fun f g1 g2 g3 => ?_)))
      refine hp f ⟨?_, g1⟩ g2 ?_
      · show f.toInt ≤ (rm (11 * par a + a)).toInt
        omega
      · rcases g3 with g3 | g3
        · exact Or.inl g3
        · exact Or.inr (Or.inr g3)
    · refine And.intro va ?_
      rw [ca, er]
      rw [Int32.le_iff_toInt_le] at hc
      refine nm_e (nm_r (nI_1 stp) (ih fu (par a) _ (stp + 1) h1 h2 (by omega) (by omega) (by omega) (fun f g1 g2 g3 => ?_)))
      refine hp f ⟨g2, g1⟩ (by omega) ?_
      rcases g3 with g3 | g3
      · refine Or.inr (Or.inl ?_)
        rw [g3]
        rfl
      · exact Or.inr (Or.inr g3)
theorem cu_narrowest {post : Int32 → Prop} (H : cu_SR 9 (cu_I rm) rf par d) (hd : d 10 ≤ 10) (hp : ∀ f : Int32, cu_pl par f.toInt (cu_I rm) (d 10) 10 → f.toInt ≤ 1000000 → (f = 1000000 ∨ cu_px par f.toInt (cu_I rm) (d 10) 10) → post f) : wpX_narrowest post (qe, cz, co, th, tI, tJ, tU, tV, rm, rf, qu) := by
  show ∃ n8 : Nat, wX_narrowest_8 post qe cz co th tI tJ tU tV rm rf qu n8 1000000 10 0
  refine ⟨12, cu_n8 H (d 10) 12 10 1000000 0 (by omega) rfl hd (by omega) (by omega) (fun f g1 g2 g3 => hp f g1 ?_ g3)⟩
  rw [show (1000000 : Int32).toInt = 1000000 from by decide] at g2
  exact g2
theorem cu_f39 {post : Int32 → SX → Prop} {J : Int32 → Int32 → Int32 → (Nat → Int32) → (Nat → Int32) → (Nat → Int32) → (Nat → Int32) → (Nat → Int32) → (Nat → Int32) → (Nat → Int32) → (Nat → Int32) → (Nat → Int32) → (Nat → Int32) → Prop} {x1 x2 f : Int32} (T : cu_T 9 par d) (hrf : ∀ p, p < 11 → d p ≤ 10 → rf p = nI (par p)) (h0 : 0 ≤ f.toInt) :
    ∀ n fuel a rm stp, a < 11 → d a = n → n ≤ 10 → stp + n ≤ 10 → n < fuel → cu_NN (cu_I rm) → cu_PB (cu_I rm) → cu_pl par f.toInt (cu_I rm) n a → (∀ rm', cu_I rm' = cu_aug par f.toInt n a (cu_I rm) → wX_fill_106 post J x1 x2 f qe cz co th tI tJ tU tV rm' rf qu) → wX_fill_39 post J x1 x2 f qe fuel (nI a) (nI stp) cz co th tI tJ tU tV rm rf qu := by
  intro n
  induction n with
  | zero =>
    intro fuel a rm stp ha hd _ hs hf _ _ _ hp
    obtain ⟨fu, rfl⟩ : ∃ fu, fuel = fu + 1 := ⟨fuel - 1, by omega⟩
    have e := cu_T_0 T ha hd
    subst e
    rw [wX_fill_39]
    exact br_f (nI_ge (b := 11) (by omega) (by decide)) (br_t rfl (hp rm rfl))
  | succ n ih =>
    intro fuel a rm stp ha hd hn hs hf hN hP hl hp
    obtain ⟨fu, rfl⟩ : ∃ fu, fuel = fu + 1 := ⟨fuel - 1, by omega⟩
    obtain ⟨h1, h2, h3, h4⟩ := cu_T_s T ha hd hn
    have er : rf a = nI (par a) := hrf a ha (by omega)
    have ca : (nI a).toNatClampNeg = a := nI_clamp (by omega)
    have ix : (11 : Int32) * nI (par a) + nI a = nI (11 * par a + a) := cu_idx _ _
    have cx : (nI (11 * par a + a)).toNatClampNeg = 11 * par a + a := nI_clamp (by omega)
    have iy : (11 : Int32) * nI a + nI (par a) = nI (11 * a + par a) := cu_idx _ _
    have cy : (nI (11 * a + par a)).toNatClampNeg = 11 * a + par a := nI_clamp (by omega)
    have vx : vp_in (nI (11 * par a + a)) 121 := vp_in_nI (by omega) (by decide)
    have vy : vp_in (nI (11 * a + par a)) 121 := vp_in_nI (by omega) (by decide)
    have na : ¬ nI a = 9 := fun z => h4 ((nI_eq (b := 9) (by omega) (by decide)).mp z)
    rw [wX_fill_39]
    refine br_f (nI_ge (b := 11) (by omega) (by decide)) (br_f na ⟨vp_in_nI ha (by decide), ?_⟩)
    rw [ca, er]
    refine nm_e ?_
    rw [ix, iy, cx, cy]
    refine ⟨vx, vx, nm_e ⟨vy, vy, nm_e (nm_r (nI_1 stp) ?_)⟩⟩
    have e := cu_I_push h1 ha h3 hN hP h0 hl.1
    refine ih fu (par a) _ (stp + 1) h1 h2 (by omega) (by omega) (by omega) ?_ ?_ ?_ ?_
    · rw [e]; exact cu_NN_push h1 ha h3 hN h0 hl.1
    · rw [e]; exact cu_PB_push h1 ha h3 hP
    · rw [e]; exact cu_pl_push T ha hd hn hl.2
    · intro rm' e'
      rw [e] at e'
      exact hp rm' e'
end
section
variable {cz co th tI tJ tU tV : Nat → Int32}
theorem cu_f10 {post : Int32 → SX → Prop} {c : Nat → Int} {S0 : Nat → Bool} (hZ : cu_Z S0) (hK : cu_K S0 c < 1000000)
    (hpost : ∀ t qe rm rf qu, cu_FE c (cu_I rm) t.toInt rf → post t (qe, cz, co, th, tI, tJ, tU, tV, rm, rf, qu)) :
    ∀ n w (t qe : Int32) rm rf qu par d, 910 < n + w → (∀ S, cu_Z S → cu_K S (cu_I rm) + t.toInt = cu_K S c) → 0 ≤ t.toInt → cu_NN (cu_I rm) → cu_PB (cu_I rm) → cu_EK w (cu_I rm) → cu_SR 9 (cu_I rm) rf par d → wX_fill_10 post n t (nI w) qe cz co th tI tJ tU tV rm rf qu := by
  intro n
  induction n with
  | zero =>
    intro w t qe rm rf qu par d hn _ _ _ _ hE _
    have := cu_EK_w hE
    omega
  | succ n ih =>
    intro w t qe rm rf qu par d hn hF ht hN hP hE H
    have hw := cu_EK_w hE
    rw [wX_fill_10]
    refine br_f (nI_ge (b := 1000) (by omega) (by decide)) ?_
    by_cases hd : d 10 ≤ 10
    · have hp10 : par 10 < 11 := (H.1.2.2 10 (by omega) hd (by omega)).1
      have er : rf 10 = nI (par 10) := H.2.2.2.2.1 10 (by omega) hd
      refine br_f (by rw [er]; exact nI_pos (by omega)) ?_
      refine cu_narrowest H hd (fun f g1 g2 g3 => ?_)
      have k1 : f.toInt ≤ cu_K S0 (cu_I rm) := cu_pl_K H.1 hZ.1 hN (d 10) 10 (by omega) rfl hd hZ.2 g1
      have k2 := hF S0 hZ
      have hx : cu_px par f.toInt (cu_I rm) (d 10) 10 := by
        rcases g3 with g3 | g3
        · rw [g3, show (1000000 : Int32).toInt = 1000000 from by decide] at k1
          omega
        · exact g3
      have f0 : 0 < f.toInt := cu_px_pos H.1 H.2.2.1 (d 10) 10 (by omega) rfl hd hx
      have k3 : (t + f).toInt = t.toInt + f.toInt := cu_add (by omega) (by omega)
      refine ⟨12, cu_f39 H.1 H.2.2.2.2.1 (Int.le_of_lt f0) (d 10) 12 10 rm 0 (by omega) rfl hd (by omega) (by omega) hN hP g1 (fun rm' e => ?_)⟩
      have q1 := cu_aug_inv H.1 (Int.le_of_lt f0) (d 10) 10 (cu_I rm) (by omega) rfl hd hN hP g1
      have q2 := cu_EK_s H.1 H.2.1 H.2.2.1 hd hE f0 hx
      rw [← e] at q1 q2
      refine nm_e (cu_search (s := 9) (by omega) (fun qe' rf' qu' par' d' H' => ?_))
      refine nm_r (nI_1 w) (ih (w + 1) (t + f) qe' rm' rf' qu' par' d' (by omega) (fun S hS => ?_) (by omega) q1.1 q1.2 q2 H')
      rw [e, cu_K_aug H.1 hS.1 (d 10) 10 (cu_I rm) (by omega) rfl hd, hS.2, k3, ← hF S hS]
      simp
      omega
    · have er : rf 10 = -1 := H.2.2.2.2.2 10 (by omega) hd
      exact br_t (by rw [er]; decide) (hpost _ _ _ _ _ ⟨hF, hN, par, d, H, hd⟩)
theorem cu_fill {post : Int32 → SX → Prop} {qe : Int32} {rm rf qu : Nat → Int32} {S0 : Nat → Bool} (hZ : cu_Z S0) (hK : cu_K S0 (cu_I rm) < 1000000) (hN : cu_NN (cu_I rm)) (hP : cu_PB (cu_I rm))
    (hpost : ∀ t qe rm' rf qu, cu_FE (cu_I rm) (cu_I rm') t.toInt rf → post t (qe, cz, co, th, tI, tJ, tU, tV, rm', rf, qu)) : wpX_fill post (qe, cz, co, th, tI, tJ, tU, tV, rm, rf, qu) := by
  unfold wpX_fill
  refine cu_search (s := 9) (by omega) (fun qe' rf' qu' par d H => ?_)
  refine ⟨911, cu_f10 hZ hK hpost 911 0 0 qe' rm rf' qu' par d (by omega) (fun S hS => ?_) (by decide) hN hP (cu_EK_0 _) H⟩
  rw [Int32.toInt_zero]
  omega
end
end
section
/-! the energy, the network's rooms -/
def cu_e1 (cz co : Nat → Int32) (b : Nat → Bool) (p : Nat) : Int := if b p = true then (co p).toInt else (cz p).toInt
def cu_e2 (th tI tJ tU tV : Nat → Int32) (b : Nat → Bool) (t : Nat) : Int :=
  if th t = 0 then 0 else if b (tI t).toNatClampNeg = b (tJ t).toNatClampNeg then 0 else if b (tJ t).toNatClampNeg = true then (tU t).toInt else (tV t).toInt
def cu_E (cz co th tI tJ tU tV : Nat → Int32) (b : Nat → Bool) : Int := cu_sm (cu_e1 cz co b) 9 + cu_sm (cu_e2 th tI tJ tU tV b) 16
def cu_tie (h i j u v : Int32) : Prop := (∃ a b, a < 9 ∧ b < 9 ∧ i = nI a ∧ j = nI b ∧ (h = 0 ∨ a ≠ b)) ∧ 0 ≤ u.toInt ∧ u.toInt ≤ 100 ∧ 0 ≤ v.toInt ∧ v.toInt ≤ 100
def cu_cost (z o : Int32) : Prop := 0 ≤ z.toInt ∧ z.toInt ≤ 100 ∧ 0 ≤ o.toInt ∧ o.toInt ≤ 100
def cu_WF (cz co th tI tJ tU tV : Nat → Int32) : Prop := (∀ p, p < 9 → cu_cost (cz p) (co p)) ∧ (∀ t, t < 16 → cu_tie (th t) (tI t) (tJ t) (tU t) (tV t))
def cu_nt (S : Nat → Bool) : Nat → Bool := fun p => !S p
def cu_UB (B : Int) (r : Nat → Int) : Prop := ∀ k, k < 121 → r k ≤ B
theorem cu_NN_p1 {r : Nat → Int} {k : Nat} {f : Int} (h : cu_NN r) (hf : 0 ≤ f) : cu_NN (cu_p1 r k f) := by
  intro j hj
  have h1 := h j hj
  by_cases z : j = k
  · subst z; rw [cu_p1_s]; omega
  · rw [cu_p1_o _ _ z]; exact h1
theorem cu_UB_p1 {r : Nat → Int} {k : Nat} {f B C : Int} (h : cu_UB B r) (h0 : 0 ≤ C) (hf : f ≤ C) : cu_UB (B + C) (cu_p1 r k f) := by
  intro j hj
  have h1 := h j hj
  by_cases z : j = k
  · subst z; rw [cu_p1_s]; omega
  · rw [cu_p1_o _ _ z]; omega
theorem cu_UB_PB {r : Nat → Int} (h : cu_UB 1000000 r) : cu_PB r := by
  intro x y hx hy
  have h1 := h (11 * x + y) (by omega)
  have h2 := h (11 * y + x) (by omega)
  omega
section
variable {cz co th tI tJ tU tV : Nat → Int32}
theorem cu_e1_b (W : cu_WF cz co th tI tJ tU tV) (b : Nat → Bool) {p : Nat} (hp : p < 9) : 0 ≤ cu_e1 cz co b p ∧ cu_e1 cz co b p ≤ 100 := by
  obtain ⟨h1, h2, h3, h4⟩ := W.1 p hp
  unfold cu_e1
  split
  · exact ⟨h3, h4⟩
  · exact ⟨h1, h2⟩
theorem cu_e2_b (W : cu_WF cz co th tI tJ tU tV) (b : Nat → Bool) {t : Nat} (ht : t < 16) : 0 ≤ cu_e2 th tI tJ tU tV b t ∧ cu_e2 th tI tJ tU tV b t ≤ 100 := by
  obtain ⟨_, h1, h2, h3, h4⟩ := W.2 t ht
  unfold cu_e2
  split
  · decide
  · split
    · decide
    · split
      · exact ⟨h1, h2⟩
      · exact ⟨h3, h4⟩
theorem cu_s1_b (W : cu_WF cz co th tI tJ tU tV) (b : Nat → Bool) {p : Nat} (hp : p ≤ 9) : 0 ≤ cu_sm (cu_e1 cz co b) p ∧ cu_sm (cu_e1 cz co b) p ≤ 900 := by
  have h1 := cu_sm_nn p (fun i hi => (cu_e1_b W b (p := i) (by omega)).1)
  have h2 := cu_sm_ub p (fun i hi => (cu_e1_b W b (p := i) (by omega)).2)
  omega
theorem cu_s2_b (W : cu_WF cz co th tI tJ tU tV) (b : Nat → Bool) {t : Nat} (ht : t ≤ 16) : 0 ≤ cu_sm (cu_e2 th tI tJ tU tV b) t ∧ cu_sm (cu_e2 th tI tJ tU tV b) t ≤ 1600 := by
  have h1 := cu_sm_nn t (fun i hi => (cu_e2_b W b (t := i) (by omega)).1)
  have h2 := cu_sm_ub t (fun i hi => (cu_e2_b W b (t := i) (by omega)).2)
  omega
theorem cu_E_b (W : cu_WF cz co th tI tJ tU tV) (b : Nat → Bool) : 0 ≤ cu_E cz co th tI tJ tU tV b ∧ cu_E cz co th tI tJ tU tV b ≤ 2500 := by
  have h1 := cu_s1_b W b (Nat.le_refl 9)
  have h2 := cu_s2_b W b (Nat.le_refl 16)
  unfold cu_E
  omega
theorem cu_E_cg (W : cu_WF cz co th tI tJ tU tV) {b b' : Nat → Bool} (h : ∀ p, p < 9 → b p = b' p) : cu_E cz co th tI tJ tU tV b = cu_E cz co th tI tJ tU tV b' := by
  unfold cu_E
  have h1 : cu_sm (cu_e1 cz co b) 9 = cu_sm (cu_e1 cz co b') 9 := cu_sm_cg 9 (fun i hi => by unfold cu_e1; rw [h i hi])
  have h2 : cu_sm (cu_e2 th tI tJ tU tV b) 16 = cu_sm (cu_e2 th tI tJ tU tV b') 16 := cu_sm_cg 16 (fun i hi => by
    obtain ⟨⟨a, c, ha, hc, e1, e2, _⟩, _⟩ := W.2 i hi
    unfold cu_e2
    rw [e1, e2, nI_clamp (n := a) (by omega), nI_clamp (n := c) (by omega), h a ha, h c hc])
  rw [h1, h2]
/-- the rooms answer for the energies: where ok holds of the labels they are the same, elsewhere the cut is dear -/
def cu_CF (cz co th tI tJ tU tV : Nat → Int32) (ok : (Nat → Bool) → Prop) (r : Nat → Int) : Prop :=
  cu_NN r ∧ cu_UB 1000000 r ∧ ∀ S, cu_Z S → (ok S ∧ cu_K S r = cu_E cz co th tI tJ tU tV (cu_nt S)) ∨ (¬ ok S ∧ 1000000 ≤ cu_K S r)
theorem cu_b70 {post : SX → Prop} {qe : Int32} {rf qu : Nat → Int32} (W : cu_WF cz co th tI tJ tU tV)
    (hpost : ∀ rm, cu_CF cz co th tI tJ tU tV (fun _ => True) (cu_I rm) → post (qe, cz, co, th, tI, tJ, tU, tV, rm, rf, qu)) :
    ∀ (n t : Nat) (rm : Nat → Int32), 16 - t < n → t ≤ 16 → cu_NN (cu_I rm) → cu_UB (1800 + 200 * t) (cu_I rm) → (∀ S, cu_Z S → cu_K S (cu_I rm) = cu_sm (cu_e1 cz co (cu_nt S)) 9 + cu_sm (cu_e2 th tI tJ tU tV (cu_nt S)) t) → wX_build_70 post qe n (nI t) cz co th tI tJ tU tV rm rf qu := by
  intro n
  induction n with
  | zero => intro t rm hn; omega
  | succ n ih =>
    intro t rm hn ht hN hU hK
    rw [wX_build_70]
    by_cases h16 : t = 16
    · subst h16
      exact br_t (by decide) (hpost rm ⟨hN, fun k hk => by have := hU k hk; omega, fun S hS => Or.inl ⟨True.intro, hK S hS⟩⟩)
    · obtain ⟨⟨a, b, ha, hb, e1, e2, e3⟩, u1, u2, v1, v2⟩ := W.2 t (by omega)
      have ct : (nI t).toNatClampNeg = t := nI_clamp (by omega)
      have vt : vp_in (nI t) 16 := vp_in_nI (by omega) (by decide)
      have ix : (11 : Int32) * nI a + nI b = nI (11 * a + b) := cu_idx _ _
      have cx : (nI (11 * a + b)).toNatClampNeg = 11 * a + b := nI_clamp (by omega)
      have iy : (11 : Int32) * nI b + nI a = nI (11 * b + a) := cu_idx _ _
      have cy : (nI (11 * b + a)).toNatClampNeg = 11 * b + a := nI_clamp (by omega)
      have vx : vp_in (nI (11 * a + b)) 121 := vp_in_nI (by omega) (by decide)
      have vy : vp_in (nI (11 * b + a)) 121 := vp_in_nI (by omega) (by decide)
      refine br_f (nI_ge (b := 16) (by omega) (by decide)) ⟨vt, ?_⟩
      rw [ct]
      by_cases hz : th t = 0
      · refine br_t hz (nm_r (nI_1 t) (ih (t + 1) rm (by omega) (by omega) hN (fun k hk => by have := hU k hk; omega) (fun S hS => ?_)))
        rw [hK S hS, cu_sm_s (cu_e2 th tI tJ tU tV (cu_nt S)) t]
        have e : cu_e2 th tI tJ tU tV (cu_nt S) t = 0 := by unfold cu_e2; exact if_pos hz
        rw [e]
        omega
      · have ne : a ≠ b := by
          rcases e3 with e3 | e3
          · exact absurd e3 hz
          · exact e3
        rw [e1, e2, ix, iy, cx, cy]
        have x1 : 0 ≤ (rm (11 * a + b)).toInt := hN _ (by omega)
        have x2 : (rm (11 * a + b)).toInt ≤ 1800 + 200 * t := hU _ (by omega)
        have y1 : 0 ≤ (rm (11 * b + a)).toInt := hN _ (by omega)
        have y2 : (rm (11 * b + a)).toInt ≤ 1800 + 200 * t := hU _ (by omega)
        have e5 : upd rm (11 * a + b) (rm (11 * a + b) + tU t) (11 * b + a) = rm (11 * b + a) := pk_un (by omega)
        have eI : cu_I (upd (upd rm (11 * a + b) (rm (11 * a + b) + tU t)) (11 * b + a) (upd rm (11 * a + b) (rm (11 * a + b) + tU t) (11 * b + a) + tV t)) = cu_p1 (cu_p1 (cu_I rm) (11 * a + b) (tU t).toInt) (11 * b + a) (tV t).toInt := by
          rw [cu_I_upd (f := (tV t).toInt) (by rw [e5]; exact cu_add (by omega) (by omega)), cu_I_upd (f := (tU t).toInt) (cu_add (by omega) (by omega))]
        refine br_f hz ⟨vt, vt, vx, vt, vx, nm_e ⟨vt, vt, vy, vt, vy, nm_e (nm_r (nI_1 t) (ih (t + 1) _ (by omega) (by omega) ?_ ?_ (fun S hS => ?_)))⟩⟩
        · rw [eI]
          exact cu_NN_p1 (cu_NN_p1 hN u1) v1
        · rw [eI]
          have := cu_UB_p1 (k := 11 * b + a) (cu_UB_p1 (k := 11 * a + b) hU (C := 100) (by omega) u2) (C := 100) (by omega) v2
          intro k hk
          have h := this k hk
          omega
        · rw [eI, cu_K_p1 (by omega) (by omega), cu_K_p1 (by omega) (by omega), hK S hS, cu_sm_s (cu_e2 th tI tJ tU tV (cu_nt S)) t]
          have e : cu_e2 th tI tJ tU tV (cu_nt S) t = (if (S a && !S b) = true then (tU t).toInt else 0) + (if (S b && !S a) = true then (tV t).toInt else 0) := by
            unfold cu_e2 cu_nt
            rw [if_neg hz, e1, e2, nI_clamp (n := a) (by omega), nI_clamp (n := b) (by omega)]
            cases S a <;> cases S b <;> simp
          rw [e]
          omega
theorem cu_b23 {post : SX → Prop} {qe : Int32} {rf qu : Nat → Int32} (W : cu_WF cz co th tI tJ tU tV)
    (hpost : ∀ rm, cu_CF cz co th tI tJ tU tV (fun _ => True) (cu_I rm) → post (qe, cz, co, th, tI, tJ, tU, tV, rm, rf, qu)) :
    ∀ (n p : Nat) (rm : Nat → Int32), 9 - p < n → p ≤ 9 → cu_NN (cu_I rm) → cu_UB (200 * p) (cu_I rm) → (∀ q, p ≤ q → q < 9 → rm (11 * 9 + q) = 0 ∧ rm (11 * q + 10) = 0) → (∀ S, cu_Z S → cu_K S (cu_I rm) = cu_sm (cu_e1 cz co (cu_nt S)) p) → wX_build_23 post qe n (nI p) cz co th tI tJ tU tV rm rf qu := by
  intro n
  induction n with
  | zero => intro p rm hn; omega
  | succ n ih =>
    intro p rm hn hp hN hU hz hK
    rw [wX_build_23]
    by_cases h9 : p = 9
    · subst h9
      refine br_t (by decide) ⟨17, cu_b70 W hpost 17 0 rm (by omega) (by omega) hN (fun k hk => by have := hU k hk; omega) (fun S hS => ?_)⟩
      rw [hK S hS]
      show _ = _ + (0 : Int)
      omega
    · obtain ⟨z1, z2, o1, o2⟩ := W.1 p (by omega)
      have cp : (nI p).toNatClampNeg = p := nI_clamp (by omega)
      have vp : vp_in (nI p) 9 := vp_in_nI (by omega) (by decide)
      have ix : (99 : Int32) + nI p = nI (11 * 9 + p) := by
        show nI 99 + nI p = _
        rw [nI_add]
      have cx : (nI (11 * 9 + p)).toNatClampNeg = 11 * 9 + p := nI_clamp (by omega)
      have iy : (11 : Int32) * nI p + 10 = nI (11 * p + 10) := cu_idx p 10
      have cy : (nI (11 * p + 10)).toNatClampNeg = 11 * p + 10 := nI_clamp (by omega)
      have vx : vp_in (nI (11 * 9 + p)) 121 := vp_in_nI (by omega) (by decide)
      have vy : vp_in (nI (11 * p + 10)) 121 := vp_in_nI (by omega) (by decide)
      refine br_f (nI_ge (b := 9) (by omega) (by decide)) ⟨vp, ?_⟩
      rw [ix, iy, cx, cy, cp]
      obtain ⟨r1, r2⟩ := hz p (Nat.le_refl p) (by omega)
      have e5 : upd rm (11 * 9 + p) (co p) (11 * p + 10) = rm (11 * p + 10) := pk_un (by omega)
      have eI : cu_I (upd (upd rm (11 * 9 + p) (co p)) (11 * p + 10) (cz p)) = cu_p1 (cu_p1 (cu_I rm) (11 * 9 + p) (co p).toInt) (11 * p + 10) (cz p).toInt := by
        rw [cu_I_upd (f := (cz p).toInt) (by rw [e5, r2, Int32.toInt_zero]; omega), cu_I_upd (f := (co p).toInt) (by rw [r1, Int32.toInt_zero]; omega)]
      refine ⟨vx, nm_e ⟨vp, vy, nm_e (nm_r (nI_1 p) (ih (p + 1) _ (by omega) (by omega) ?_ ?_ (fun q hq1 hq2 => ?_) (fun S hS => ?_)))⟩⟩
      · rw [eI]
        exact cu_NN_p1 (cu_NN_p1 hN o1) z1
      · rw [eI]
        have := cu_UB_p1 (k := 11 * p + 10) (cu_UB_p1 (k := 11 * 9 + p) hU (C := 100) (by omega) o2) (C := 100) (by omega) z2
        intro k hk
        have h := this k hk
        omega
      · rw [pk_un (by omega), pk_un (by omega), pk_un (by omega), pk_un (by omega)]
        exact hz q (by omega) hq2
      · rw [eI, cu_K_p1 (by omega) (by omega), cu_K_p1 (by omega) (by omega), hK S hS, cu_sm_s, hS.1, hS.2]
        have e : cu_e1 cz co (cu_nt S) p = (if (true && !S p) = true then (co p).toInt else 0) + (if (S p && !false) = true then (cz p).toInt else 0) := by
          unfold cu_e1 cu_nt
          cases S p <;> simp
        rw [e]
        omega
theorem cu_b2 {post : SX → Prop} {qe : Int32} {rf qu : Nat → Int32} (W : cu_WF cz co th tI tJ tU tV)
    (hpost : ∀ rm, cu_CF cz co th tI tJ tU tV (fun _ => True) (cu_I rm) → post (qe, cz, co, th, tI, tJ, tU, tV, rm, rf, qu)) :
    ∀ n k rm, 121 - k < n → k ≤ 121 → (∀ j, j < k → rm j = 0) → wX_build_2 post qe n (nI k) cz co th tI tJ tU tV rm rf qu := by
  intro n
  induction n with
  | zero => intro k rm hn; omega
  | succ n ih =>
    intro k rm hn hk hz
    rw [wX_build_2]
    by_cases h : k = 121
    · subst h
      have z0 : ∀ j, j < 121 → cu_I rm j = 0 := fun j hj => by
        show (rm j).toInt = 0
        rw [hz j hj, Int32.toInt_zero]
      refine br_t (by decide) ⟨10, cu_b23 W hpost 10 0 rm (by omega) (by omega) (fun j hj => by rw [z0 j hj]; omega) (fun j hj => by rw [z0 j hj]; omega) (fun q _ hq => ⟨hz _ (by omega), hz _ (by omega)⟩) (fun S hS => ?_)⟩
      exact cu_K_z (fun x y hx hy _ _ => z0 _ (by omega))
    · have ck : (nI k).toNatClampNeg = k := nI_clamp (by omega)
      refine br_f (nI_ge (b := 121) (by omega) (by decide)) ⟨vp_in_nI (by omega) (by decide), ?_⟩
      rw [ck]
      refine nm_e (nm_r (nI_1 k) (ih (k + 1) _ (by omega) (by omega) (fun j hj => ?_)))
      by_cases z : j = k
      · rw [z, pk_us]
      · rw [pk_un z]
        exact hz j (by omega)
theorem cu_build {post : SX → Prop} {qe : Int32} {rm rf qu : Nat → Int32} (W : cu_WF cz co th tI tJ tU tV)
    (hpost : ∀ rm, cu_CF cz co th tI tJ tU tV (fun _ => True) (cu_I rm) → post (qe, cz, co, th, tI, tJ, tU, tV, rm, rf, qu)) : wpX_build post (qe, cz, co, th, tI, tJ, tU, tV, rm, rf, qu) := by
  show ∃ n2 : Nat, wX_build_2 post qe n2 0 cz co th tI tJ tU tV rm rf qu
  exact ⟨122, cu_b2 W hpost 122 0 rm (by omega) (by omega) (fun j hj => absurd hj (by omega))⟩
theorem cu_CF_f {ok : (Nat → Bool) → Prop} {rm : Nat → Int32} {x y : Nat} (hx : x < 11) (hy : y < 11) (C : cu_CF cz co th tI tJ tU tV ok (cu_I rm)) : cu_CF cz co th tI tJ tU tV (fun S => ok S ∧ ¬ (S x && !S y) = true) (cu_I (upd rm (11 * x + y) 1000000)) := by
  obtain ⟨hN, hU, hK⟩ := C
  have x1 : 0 ≤ cu_I rm (11 * x + y) := hN _ (by omega)
  have x2 : cu_I rm (11 * x + y) ≤ 1000000 := hU _ (by omega)
  have eI : cu_I (upd rm (11 * x + y) 1000000) = cu_p1 (cu_I rm) (11 * x + y) (1000000 - cu_I rm (11 * x + y)) := by
    refine cu_I_upd ?_
    rw [show (1000000 : Int32).toInt = 1000000 from by decide]
    show (1000000 : Int) = cu_I rm (11 * x + y) + (1000000 - cu_I rm (11 * x + y))
    omega
  rw [eI]
  refine ⟨cu_NN_p1 hN (by omega), fun j hj => ?_, fun S hS => ?_⟩
  · by_cases z : j = 11 * x + y
    · rw [z, cu_p1_s]
      omega
    · rw [cu_p1_o _ _ z]
      exact hU j hj
  · rw [cu_K_p1 hx hy]
    by_cases c : (S x && !S y) = true
    · have h := cu_K_ge (S := S) hN hx hy c
      rw [if_pos c]
      exact Or.inr ⟨fun z => z.2 c, by omega⟩
    · rw [if_neg c]
      rcases hK S hS with ⟨h1, h2⟩ | ⟨h1, h2⟩
      · exact Or.inl ⟨⟨h1, c⟩, by rw [h2]; omega⟩
      · exact Or.inr ⟨fun z => h1 z.1, by omega⟩
theorem cu_force0 {post : SX → Prop} {qe : Int32} {rm rf qu : Nat → Int32} {p : Nat} (hp : p < 9) (h : post (qe, cz, co, th, tI, tJ, tU, tV, upd rm (11 * 9 + p) 1000000, rf, qu)) : wpX_force post (qe, cz, co, th, tI, tJ, tU, tV, rm, rf, qu) (nI p) 0 := by
  have ix : (99 : Int32) + nI p = nI (11 * 9 + p) := by
    show nI 99 + nI p = _
    rw [nI_add]
  have cx : (nI (11 * 9 + p)).toNatClampNeg = 11 * 9 + p := nI_clamp (by omega)
  refine br_t rfl ?_
  rw [ix, cx]
  exact ⟨vp_in_nI (by omega) (by decide), nm_e h⟩
theorem cu_force1 {post : SX → Prop} {qe x : Int32} {rm rf qu : Nat → Int32} {p : Nat} (hp : p < 9) (hx : ¬ x = 0) (h : post (qe, cz, co, th, tI, tJ, tU, tV, upd rm (11 * p + 10) 1000000, rf, qu)) : wpX_force post (qe, cz, co, th, tI, tJ, tU, tV, rm, rf, qu) (nI p) x := by
  have iy : (11 : Int32) * nI p + 10 = nI (11 * p + 10) := cu_idx p 10
  have cy : (nI (11 * p + 10)).toNatClampNeg = 11 * p + 10 := nI_clamp (by omega)
  refine br_f hx ?_
  rw [iy, cy]
  exact ⟨vp_in_nI (by omega) (by decide), nm_e h⟩
end
end
section
/-! the energy on both sides -/
def cu_lb (b : Bool) : Int32 := if b = true then 1 else 0
theorem cu_b1 : ∀ i, i < 32 → bt 1 i = decide (i = 0) := by decide +kernel
theorem cu_lb_t (b : Bool) {i : Nat} (hi : i < 32) : bt (cu_lb b) i = (b && decide (i = 0)) := by
  cases b
  · show bt 0 i = _
    rw [b_0]
    rfl
  · show bt 1 i = _
    rw [cu_b1 i hi]
    rfl
theorem cu_bx (x : Int32) {p : Nat} (hp : p < 32) : (x.toUInt32 >>> ((nI p).toUInt32 &&& Int32.toUInt32 31)).toInt32 &&& 1 = cu_lb (bt x p) := by
  apply b_ext
  intro i hi
  rw [b_and, b_ushr p hp, cu_b1 i hi, cu_lb_t _ hi]
  by_cases z : i = 0
  · rw [z]
    rfl
  · rw [decide_eq_false z, Bool.and_false, Bool.and_false]
theorem cu_by (x : Int32) {p : Nat} (hp : p < 32) : (x >>> (nI p &&& 31)) &&& 1 = cu_lb (bt x p) := by
  apply b_ext
  intro i hi
  rw [b_and, b_sshr p hp x hi, cu_b1 i hi, cu_lb_t _ hi]
  by_cases z : i = 0
  · rw [z, if_pos (by omega)]
    rfl
  · rw [decide_eq_false z, Bool.and_false, Bool.and_false]
theorem cu_b0x (x : Int32) : x &&& 1 = cu_lb (bt x 0) := by
  apply b_ext
  intro i hi
  rw [b_and, cu_b1 i hi, cu_lb_t _ hi]
  by_cases z : i = 0
  · rw [z]
  · rw [decide_eq_false z, Bool.and_false, Bool.and_false]
theorem cu_lb_inj {a b : Bool} : cu_lb a = cu_lb b ↔ a = b := by
  cases a <;> cases b <;> decide
theorem cu_bn (l : Nat) {p : Nat} (hp : p < 32) : bt (nI l) p = l.testBit p := by
  show (BitVec.ofNat 32 l).getLsbD p = _
  rw [BitVec.getLsbD_ofNat]
  simp [hp]
section
variable {cz co th tI tJ tU tV : Nat → Int32}
theorem cu_e2_0 {b : Nat → Bool} {t : Nat} (h : th t = 0) : cu_e2 th tI tJ tU tV b t = 0 := by
  unfold cu_e2
  exact if_pos h
theorem cu_e2_1 {b : Nat → Bool} {t i j : Nat} (hi : i < 9) (hj : j < 9) (ei : tI t = nI i) (ej : tJ t = nI j) (h : ¬ th t = 0) : cu_e2 th tI tJ tU tV b t = if b i = b j then 0 else if b j = true then (tU t).toInt else (tV t).toInt := by
  unfold cu_e2
  rw [if_neg h, ei, ej, nI_clamp (n := i) (by omega), nI_clamp (n := j) (by omega)]
theorem cu_x101 {post : Int32 → Prop} {J : Int32 → Int32 → Prop} {qe x x4 x5 z0 z1 : Int32} {rm rf qu : Nat → Int32} {t : Nat} (ht : t < 16)
    (h0 : th t = 0 ∨ x4 ≤ x5 → J (z1 + z0 + 0) (nI (t + 1))) (h1 : ¬ th t = 0 → ¬ x4 ≤ x5 → J (z1 + z0 + tV t) (nI (t + 1))) : wX_energy_101 post J x (nI t) x4 x5 z0 z1 qe cz co th tI tJ tU tV rm rf qu := by
  have ct : (nI t).toNatClampNeg = t := nI_clamp (by omega)
  have vt : vp_in (nI t) 16 := vp_in_nI ht (by decide)
  unfold wX_energy_101
  rw [ct]
  refine nm_e ⟨vt, br_c (fun z => nm_e (nm_r (nI_1 t) (h0 (Or.inl z)))) (fun z => br_c (fun y => nm_e (nm_r (nI_1 t) (h0 (Or.inr y)))) (fun y => ⟨vt, nm_e (nm_r (nI_1 t) (h1 z y))⟩))⟩
theorem cu_x44 {post : Int32 → Prop} {qe x : Int32} {rm rf qu : Nat → Int32} (W : cu_WF cz co th tI tJ tU tV) (hpost : ∀ e : Int32, e.toInt = cu_E cz co th tI tJ tU tV (bt x) → post e) :
    ∀ (n t : Nat) (s : Int32), 16 - t < n → t ≤ 16 → s.toInt = cu_sm (cu_e1 cz co (bt x)) 9 + cu_sm (cu_e2 th tI tJ tU tV (bt x)) t → wX_energy_44 post x qe cz co th tI tJ tU tV rm rf qu n s (nI t) := by
  intro n
  induction n with
  | zero => intro t s hn; omega
  | succ n ih =>
    intro t s hn ht hs
    rw [wX_energy_44]
    by_cases h16 : t = 16
    · subst h16
      exact br_t (by decide) (hpost s hs)
    · obtain ⟨⟨i, j, hi, hj, ei, ej, _⟩, u1, u2, v1, v2⟩ := W.2 t (by omega)
      have q1 := cu_s1_b W (bt x) (Nat.le_refl 9)
      have q2 := cu_s2_b W (bt x) (t := t) (by omega)
      have ct : (nI t).toNatClampNeg = t := nI_clamp (by omega)
      have vt : vp_in (nI t) 16 := vp_in_nI (by omega) (by decide)
      refine br_f (nI_ge (b := 16) (by omega) (by decide)) ⟨vt, ?_⟩
      rw [ct, ei, ej, cu_bx x (p := i) (by omega), cu_bx x (p := j) (by omega)]
      refine nm_e ⟨vt, nm_e ⟨vt, ?_⟩⟩
      have go : ∀ s' : Int32, s'.toInt = s.toInt + cu_e2 th tI tJ tU tV (bt x) t → wX_energy_44 post x qe cz co th tI tJ tU tV rm rf qu n s' (nI (t + 1)) := fun s' hs' =>
        ih (t + 1) s' (by omega) (by omega) (by rw [hs', hs, cu_sm_s (cu_e2 th tI tJ tU tV (bt x)) t]; omega)
      by_cases hz : th t = 0
      · rw [cu_e2_0 hz] at go
        refine br_t hz ?_
        unfold wX_energy_100
        refine cu_x101 (by omega) (fun _ => go _ ?_) (fun h => absurd hz h)
        rw [Int32.add_zero, Int32.add_zero]
        omega
      · rw [cu_e2_1 hi hj ei ej hz] at go
        refine br_f hz ?_
        revert go
        cases bt x i <;> cases bt x j <;> intro go
        · refine br_t (by decide) ?_
          unfold wX_energy_100
          refine cu_x101 (by omega) (fun _ => go _ ?_) (fun _ h => absurd (by decide) h)
          rw [Int32.add_zero, Int32.add_zero]
          simp
        · refine br_f (by decide) ⟨vt, ?_⟩
          refine cu_x101 (by omega) (fun _ => go _ ?_) (fun _ h => absurd (by decide) h)
          rw [Int32.add_zero, cu_add (by omega) (by omega)]
          simp
        · refine br_t (by decide) ?_
          unfold wX_energy_100
          refine cu_x101 (by omega) (fun h => ?_) (fun _ _ => go _ ?_)
          · rcases h with h | h
            · exact absurd h hz
            · exact absurd h (by decide)
          · rw [Int32.add_zero, cu_add (by omega) (by omega)]
            simp
        · refine br_t (by decide) ?_
          unfold wX_energy_100
          refine cu_x101 (by omega) (fun _ => go _ ?_) (fun _ h => absurd (by decide) h)
          rw [Int32.add_zero, Int32.add_zero]
          simp
theorem cu_x4 {post : Int32 → Prop} {qe x : Int32} {rm rf qu : Nat → Int32} (W : cu_WF cz co th tI tJ tU tV) (hpost : ∀ e : Int32, e.toInt = cu_E cz co th tI tJ tU tV (bt x) → post e) :
    ∀ (n p : Nat) (s : Int32), 9 - p < n → p ≤ 9 → s.toInt = cu_sm (cu_e1 cz co (bt x)) p → wX_energy_4 post x qe cz co th tI tJ tU tV rm rf qu n s (nI p) := by
  intro n
  induction n with
  | zero => intro p s hn; omega
  | succ n ih =>
    intro p s hn hp hs
    rw [wX_energy_4]
    by_cases h9 : p = 9
    · subst h9
      refine br_t (by decide) ⟨17, cu_x44 W hpost 17 0 s (by omega) (by omega) ?_⟩
      rw [hs]
      show _ = _ + (0 : Int)
      omega
    · obtain ⟨z1, z2, o1, o2⟩ := W.1 p (by omega)
      have q1 := cu_s1_b W (bt x) (p := p) (by omega)
      have cp : (nI p).toNatClampNeg = p := nI_clamp (by omega)
      have vp : vp_in (nI p) 9 := vp_in_nI (by omega) (by decide)
      have go : ∀ s' : Int32, s'.toInt = s.toInt + (if bt x p = true then (co p).toInt else (cz p).toInt) → wX_energy_4 post x qe cz co th tI tJ tU tV rm rf qu n s' (nI (p + 1)) := fun s' hs' =>
        ih (p + 1) s' (by omega) (by omega) (by rw [hs', hs, cu_sm_s (cu_e1 cz co (bt x)) p]; rfl)
      refine br_f (nI_ge (b := 9) (by omega) (by decide)) ?_
      rw [cu_bx x (p := p) (by omega), cp]
      revert go
      cases bt x p <;> intro go
      · exact br_t (by decide) ⟨vp, nm_e (nm_r (nI_1 p) (go _ (by rw [cu_add (by omega) (by omega)]; simp)))⟩
      · exact br_f (by decide) ⟨vp, nm_e (nm_r (nI_1 p) (go _ (by rw [cu_add (by omega) (by omega)]; simp)))⟩
theorem cu_xen {post : Int32 → Prop} {qe x : Int32} {rm rf qu : Nat → Int32} (W : cu_WF cz co th tI tJ tU tV) (hpost : ∀ e : Int32, e.toInt = cu_E cz co th tI tJ tU tV (bt x) → post e) : wpX_energy post (qe, cz, co, th, tI, tJ, tU, tV, rm, rf, qu) x := by
  show ∃ n4 : Nat, wX_energy_4 post x qe cz co th tI tJ tU tV rm rf qu n4 0 0
  exact ⟨10, cu_x4 W hpost 10 0 0 (by omega) (by omega) Int32.toInt_zero⟩
theorem cu_y90 {cs : Nat → Int32} {post : Int32 → Prop} {J : Int32 → Int32 → Prop} {x x4 x5 s : Int32} {t : Nat} (ht : t < 16)
    (h0 : th t = 0 ∨ x4 ≤ x5 → J s (nI (t + 1))) (h1 : ¬ th t = 0 → ¬ x4 ≤ x5 → J (s + tV t) (nI (t + 1))) : wY_energy_90 post J x s (nI t) x4 x5 cs th tI tJ tU tV := by
  have ct : (nI t).toNatClampNeg = t := nI_clamp (by omega)
  have vt : vp_in (nI t) 16 := vp_in_nI ht (by decide)
  unfold wY_energy_90
  rw [ct]
  refine ⟨vt, br_c (fun z => nm_r (nI_1 t) (h0 (Or.inl z))) (fun z => br_c (fun y => nm_r (nI_1 t) (h0 (Or.inr y))) (fun y => ⟨vt, nm_e (nm_r (nI_1 t) (h1 z y))⟩))⟩
theorem cu_y35 {cs : Nat → Int32} {post : Int32 → Prop} {x : Int32} (W : cu_WF cz co th tI tJ tU tV) (hpost : ∀ e : Int32, e.toInt = cu_E cz co th tI tJ tU tV (bt x) → post e) :
    ∀ (n t : Nat) (s : Int32), 16 - t < n → t ≤ 16 → s.toInt = cu_sm (cu_e1 cz co (bt x)) 9 + cu_sm (cu_e2 th tI tJ tU tV (bt x)) t → wY_energy_35 post x cs th tI tJ tU tV n s (nI t) := by
  intro n
  induction n with
  | zero => intro t s hn; omega
  | succ n ih =>
    intro t s hn ht hs
    rw [wY_energy_35]
    by_cases h16 : t = 16
    · subst h16
      exact br_t (by decide) (hpost s hs)
    · obtain ⟨⟨i, j, hi, hj, ei, ej, _⟩, u1, u2, v1, v2⟩ := W.2 t (by omega)
      have q1 := cu_s1_b W (bt x) (Nat.le_refl 9)
      have q2 := cu_s2_b W (bt x) (t := t) (by omega)
      have ct : (nI t).toNatClampNeg = t := nI_clamp (by omega)
      have vt : vp_in (nI t) 16 := vp_in_nI (by omega) (by decide)
      refine br_f (nI_ge (b := 16) (by omega) (by decide)) ⟨vt, ?_⟩
      unfold wpY_label
      rw [ct, ei, ej, cu_by x (p := i) (by omega), cu_by x (p := j) (by omega)]
      refine ⟨vt, vt, ?_⟩
      have go : ∀ s' : Int32, s'.toInt = s.toInt + cu_e2 th tI tJ tU tV (bt x) t → wY_energy_35 post x cs th tI tJ tU tV n s' (nI (t + 1)) := fun s' hs' =>
        ih (t + 1) s' (by omega) (by omega) (by rw [hs', hs, cu_sm_s (cu_e2 th tI tJ tU tV (bt x)) t]; omega)
      by_cases hz : th t = 0
      · rw [cu_e2_0 hz] at go
        exact br_t hz (cu_y90 (by omega) (fun _ => go _ (by omega)) (fun h => absurd hz h))
      · rw [cu_e2_1 hi hj ei ej hz] at go
        refine br_f hz ?_
        revert go
        cases bt x i <;> cases bt x j <;> intro go
        · exact br_t (by decide) (cu_y90 (by omega) (fun _ => go _ (by simp)) (fun _ h => absurd (by decide) h))
        · exact br_f (by decide) ⟨vt, nm_e (cu_y90 (by omega) (fun _ => go _ (by rw [cu_add (by omega) (by omega)]; simp)) (fun _ h => absurd (by decide) h))⟩
        · refine br_t (by decide) (cu_y90 (by omega) (fun h => ?_) (fun _ _ => go _ (by rw [cu_add (by omega) (by omega)]; simp)))
          rcases h with h | h
          · exact absurd h hz
          · exact absurd h (by decide)
        · exact br_t (by decide) (cu_y90 (by omega) (fun _ => go _ (by simp)) (fun _ h => absurd (by decide) h))
def cu_cs (cs cz co : Nat → Int32) : Prop := ∀ p, p < 9 → cs (2 * p) = cz p ∧ cs (2 * p + 1) = co p
theorem cu_y4 {cs : Nat → Int32} {post : Int32 → Prop} {x : Int32} (W : cu_WF cz co th tI tJ tU tV) (hc : cu_cs cs cz co) (hpost : ∀ e : Int32, e.toInt = cu_E cz co th tI tJ tU tV (bt x) → post e) :
    ∀ (n p : Nat) (s : Int32), 9 - p < n → p ≤ 9 → s.toInt = cu_sm (cu_e1 cz co (bt x)) p → wY_energy_4 post x cs th tI tJ tU tV n s (nI p) := by
  intro n
  induction n with
  | zero => intro p s hn; omega
  | succ n ih =>
    intro p s hn hp hs
    rw [wY_energy_4]
    by_cases h9 : p = 9
    · subst h9
      refine br_t (by decide) ⟨17, cu_y35 W hpost 17 0 s (by omega) (by omega) ?_⟩
      rw [hs]
      show _ = _ + (0 : Int)
      omega
    · obtain ⟨z1, z2, o1, o2⟩ := W.1 p (by omega)
      have q1 := cu_s1_b W (bt x) (p := p) (by omega)
      have go : ∀ s' : Int32, s'.toInt = s.toInt + (if bt x p = true then (co p).toInt else (cz p).toInt) → wY_energy_4 post x cs th tI tJ tU tV n s' (nI (p + 1)) := fun s' hs' =>
        ih (p + 1) s' (by omega) (by omega) (by rw [hs', hs, cu_sm_s (cu_e1 cz co (bt x)) p]; rfl)
      refine br_f (nI_ge (b := 9) (by omega) (by decide)) ?_
      unfold wpY_label
      rw [cu_by x (p := p) (by omega)]
      revert go
      cases bt x p <;> intro go
      · have ix : (2 : Int32) * nI p + cu_lb false = nI (2 * p) := by
          show nI 2 * nI p + nI 0 = _
          rw [pk_mul, nI_add]
          rfl
        rw [ix, nI_clamp (n := 2 * p) (by omega), (hc p (by omega)).1]
        exact ⟨vp_in_nI (by omega) (by decide), nm_e (nm_r (nI_1 p) (go _ (by rw [cu_add (by omega) (by omega)]; simp)))⟩
      · have ix : (2 : Int32) * nI p + cu_lb true = nI (2 * p + 1) := by
          show nI 2 * nI p + nI 1 = _
          rw [pk_mul, nI_add]
        rw [ix, nI_clamp (n := 2 * p + 1) (by omega), (hc p (by omega)).2]
        exact ⟨vp_in_nI (by omega) (by decide), nm_e (nm_r (nI_1 p) (go _ (by rw [cu_add (by omega) (by omega)]; simp)))⟩
theorem cu_yen {cs : Nat → Int32} {post : Int32 → Prop} {x : Int32} (W : cu_WF cz co th tI tJ tU tV) (hc : cu_cs cs cz co) (hpost : ∀ e : Int32, e.toInt = cu_E cz co th tI tJ tU tV (bt x) → post e) : wpY_energy post (cs, th, tI, tJ, tU, tV) x := by
  show ∃ n4 : Nat, wY_energy_4 post x cs th tI tJ tU tV n4 0 0
  exact ⟨10, cu_y4 W hc hpost 10 0 0 (by omega) (by omega) Int32.toInt_zero⟩
end
end
section
/-! the reference's loops over all 512 labellings -/
def cu_Ef (cz co th tI tJ tU tV : Nat → Int32) (l : Nat) : Int := cu_E cz co th tI tJ tU tV (fun p => l.testBit p)
/-- t is the least energy of the labellings that are ok -/
def cu_YM (cz co th tI tJ tU tV : Nat → Int32) (ok : Nat → Prop) (t : Int) : Prop :=
  (∃ l, l < 512 ∧ ok l ∧ cu_Ef cz co th tI tJ tU tV l = t) ∧ ∀ l, l < 512 → ok l → t ≤ cu_Ef cz co th tI tJ tU tV l
/-- the same under way: so far the first n of them -/
def cu_YP (cz co th tI tJ tU tV : Nat → Int32) (ok : Nat → Prop) (n : Nat) (t : Int) : Prop :=
  (t = 1000000 ∨ ∃ l, l < n ∧ ok l ∧ cu_Ef cz co th tI tJ tU tV l = t) ∧ ∀ l, l < n → ok l → t ≤ cu_Ef cz co th tI tJ tU tV l
theorem cu_511 : ∀ i, i < 32 → bt 511 i = decide (i < 9) := by decide +kernel
section
variable {cs cz co th tI tJ tU tV : Nat → Int32}
theorem cu_Ef_b (W : cu_WF cz co th tI tJ tU tV) (l : Nat) : 0 ≤ cu_Ef cz co th tI tJ tU tV l ∧ cu_Ef cz co th tI tJ tU tV l ≤ 2500 := cu_E_b W _
theorem cu_yef {post : Int32 → Prop} (W : cu_WF cz co th tI tJ tU tV) (hc : cu_cs cs cz co) {l : Nat} (hpost : ∀ e : Int32, e.toInt = cu_Ef cz co th tI tJ tU tV l → post e) : wpY_energy post (cs, th, tI, tJ, tU, tV) (nI l) := by
  refine cu_yen W hc (fun e he => hpost e ?_)
  rw [he]
  exact cu_E_cg W (fun p hp => cu_bn l (by omega))
theorem cu_YP_keep {ok : Nat → Prop} {n : Nat} {t : Int} (h : cu_YP cz co th tI tJ tU tV ok n t) (hn : ok n → t ≤ cu_Ef cz co th tI tJ tU tV n) : cu_YP cz co th tI tJ tU tV ok (n + 1) t := by
  obtain ⟨h1, h2⟩ := h
  refine ⟨?_, fun l hl ho => ?_⟩
  · rcases h1 with h1 | ⟨l, hl, ho, e⟩
    · exact Or.inl h1
    · exact Or.inr ⟨l, by omega, ho, e⟩
  · by_cases z : l = n
    · subst z
      exact hn ho
    · exact h2 l (by omega) ho
theorem cu_YP_new {ok : Nat → Prop} {n : Nat} {t : Int} (h : cu_YP cz co th tI tJ tU tV ok n t) (ho : ok n) (hn : cu_Ef cz co th tI tJ tU tV n ≤ t) : cu_YP cz co th tI tJ tU tV ok (n + 1) (cu_Ef cz co th tI tJ tU tV n) := by
  obtain ⟨h1, h2⟩ := h
  refine ⟨Or.inr ⟨n, by omega, ho, rfl⟩, fun l hl hol => ?_⟩
  by_cases z : l = n
  · subst z
    exact Int.le_refl _
  · exact Int.le_trans hn (h2 l (by omega) hol)
theorem cu_YP_end (W : cu_WF cz co th tI tJ tU tV) {ok : Nat → Prop} {t : Int} (h : cu_YP cz co th tI tJ tU tV ok 512 t) (hx : ∃ l, l < 512 ∧ ok l) : cu_YM cz co th tI tJ tU tV ok t := by
  obtain ⟨h1, h2⟩ := h
  refine ⟨?_, h2⟩
  rcases h1 with h1 | h1
  · obtain ⟨l, hl, ho⟩ := hx
    have e1 := h2 l hl ho
    have e2 := cu_Ef_b W l
    omega
  · exact h1
theorem cu_y8 {post : Int32 → Prop} (W : cu_WF cz co th tI tJ tU tV) (hc : cu_cs cs cz co) (hpost : ∀ m : Int32, cu_YM cz co th tI tJ tU tV (fun _ => True) m.toInt → post m) :
    ∀ (n l : Nat) (m : Int32), 512 - l < n → l ≤ 512 → cu_YP cz co th tI tJ tU tV (fun _ => True) l m.toInt → wY_least_8 post cs th tI tJ tU tV n m (nI l) := by
  intro n
  induction n with
  | zero => intro l m hn; omega
  | succ n ih =>
    intro l m hn hl hP
    rw [wY_least_8]
    by_cases h : l = 512
    · subst h
      exact br_t (by decide) (hpost m (cu_YP_end W hP ⟨0, by omega, True.intro⟩))
    · refine br_f (nI_ge (b := 512) (by omega) (by decide)) (cu_yef W hc (fun e he => br_c (fun z => ?_) (fun z => ?_)))
      · rw [Int32.le_iff_toInt_le] at z
        exact nm_r (nI_1 l) (ih (l + 1) m (by omega) (by omega) (cu_YP_keep hP (fun _ => by omega)))
      · rw [Int32.le_iff_toInt_le] at z
        refine nm_r (nI_1 l) (ih (l + 1) e (by omega) (by omega) ?_)
        rw [he]
        exact cu_YP_new hP True.intro (by omega)
theorem cu_yleast {post : Int32 → Prop} (W : cu_WF cz co th tI tJ tU tV) (hc : cu_cs cs cz co) (hpost : ∀ m : Int32, cu_YM cz co th tI tJ tU tV (fun _ => True) m.toInt → post m) : wpY_least post (cs, th, tI, tJ, tU, tV) := by
  unfold wpY_least
  refine cu_yef (l := 0) W hc (fun e he => ⟨512, cu_y8 W hc hpost 512 1 e (by omega) (by omega) ?_⟩)
  refine ⟨Or.inr ⟨0, by omega, True.intro, he.symm⟩, fun l hl _ => ?_⟩
  have z : l = 0 := by omega
  rw [z, he]
  exact Int.le_refl _
/-- the labellings of least energy have a 1 there, all of them -/
def cu_And (cz co th tI tJ tU tV : Nat → Int32) (t : Int) (n i : Nat) : Prop := i < 9 ∧ ∀ l, l < n → cu_Ef cz co th tI tJ tU tV l = t → l.testBit i = true
/-- .. some of them -/
def cu_Or (cz co th tI tJ tU tV : Nat → Int32) (t : Int) (n i : Nat) : Prop := ∃ l, l < n ∧ cu_Ef cz co th tI tJ tU tV l = t ∧ l.testBit i = true
theorem cu_y11 {post : Int32 → Prop} {m : Int32} (W : cu_WF cz co th tI tJ tU tV) (hc : cu_cs cs cz co) (hpost : ∀ r : Int32, (∀ i, i < 32 → (bt r i = true ↔ cu_And cz co th tI tJ tU tV m.toInt 512 i)) → post r) :
    ∀ (n l : Nat) (r : Int32), 512 - l < n → l ≤ 512 → (∀ i, i < 32 → (bt r i = true ↔ cu_And cz co th tI tJ tU tV m.toInt l i)) → wY_lower_11 post m cs th tI tJ tU tV n r (nI l) := by
  intro n
  induction n with
  | zero => intro l r hn; omega
  | succ n ih =>
    intro l r hn hl hP
    rw [wY_lower_11]
    by_cases h : l = 512
    · subst h
      exact br_t (by decide) (hpost r hP)
    · refine br_f (nI_ge (b := 512) (by omega) (by decide)) (cu_yef W hc (fun e he => br_c (fun z => ?_) (fun z => ?_)))
      · refine nm_e (nm_r (nI_1 l) (ih (l + 1) _ (by omega) (by omega) (fun i hi => ?_)))
        rw [b_and, Bool.and_eq_true, hP i hi, cu_bn l hi]
        constructor
        · rintro ⟨⟨h1, h2⟩, h3⟩
          refine ⟨h1, fun j hj ej => ?_⟩
          by_cases y : j = l
          · rw [y]; exact h3
          · exact h2 j (by omega) ej
        · rintro ⟨h1, h2⟩
          refine ⟨⟨h1, fun j hj ej => h2 j (by omega) ej⟩, h2 l (by omega) ?_⟩
          rw [← he, z]
      · refine nm_r (nI_1 l) (ih (l + 1) r (by omega) (by omega) (fun i hi => ?_))
        rw [hP i hi]
        constructor
        · rintro ⟨h1, h2⟩
          refine ⟨h1, fun j hj ej => ?_⟩
          by_cases y : j = l
          · rw [y, ← he] at ej
            exact absurd (Int32.toInt_inj.mp ej) z
          · exact h2 j (by omega) ej
        · rintro ⟨h1, h2⟩
          exact ⟨h1, fun j hj ej => h2 j (by omega) ej⟩
theorem cu_ylower {post : Int32 → Prop} (W : cu_WF cz co th tI tJ tU tV) (hc : cu_cs cs cz co) (hpost : ∀ r m : Int32, cu_YM cz co th tI tJ tU tV (fun _ => True) m.toInt → (∀ i, i < 32 → (bt r i = true ↔ cu_And cz co th tI tJ tU tV m.toInt 512 i)) → post r) : wpY_lower post (cs, th, tI, tJ, tU, tV) := by
  unfold wpY_lower
  refine cu_yleast W hc (fun m hm => ⟨513, cu_y11 W hc (fun r hr => hpost r m hm hr) 513 0 511 (by omega) (by omega) (fun i hi => ?_)⟩)
  rw [cu_511 i hi, decide_eq_true_eq]
  exact ⟨fun h => ⟨h, fun l hl => absurd hl (by omega)⟩, fun h => h.1⟩
theorem cu_y9 {post : Int32 → Prop} {m : Int32} (W : cu_WF cz co th tI tJ tU tV) (hc : cu_cs cs cz co) (hpost : ∀ r : Int32, (∀ i, i < 32 → (bt r i = true ↔ cu_Or cz co th tI tJ tU tV m.toInt 512 i)) → post r) :
    ∀ (n l : Nat) (r : Int32), 512 - l < n → l ≤ 512 → (∀ i, i < 32 → (bt r i = true ↔ cu_Or cz co th tI tJ tU tV m.toInt l i)) → wY_upper_9 post m cs th tI tJ tU tV n r (nI l) := by
  intro n
  induction n with
  | zero => intro l r hn; omega
  | succ n ih =>
    intro l r hn hl hP
    rw [wY_upper_9]
    by_cases h : l = 512
    · subst h
      exact br_t (by decide) (hpost r hP)
    · refine br_f (nI_ge (b := 512) (by omega) (by decide)) (cu_yef W hc (fun e he => br_c (fun z => ?_) (fun z => ?_)))
      · refine nm_e (nm_r (nI_1 l) (ih (l + 1) _ (by omega) (by omega) (fun i hi => ?_)))
        rw [b_or, Bool.or_eq_true, hP i hi, cu_bn l hi]
        constructor
        · rintro (⟨j, hj, h1, h2⟩ | h3)
          · exact ⟨j, by omega, h1, h2⟩
          · exact ⟨l, by omega, by rw [← he, z], h3⟩
        · rintro ⟨j, hj, h1, h2⟩
          by_cases y : j = l
          · rw [y] at h2
            exact Or.inr h2
          · exact Or.inl ⟨j, by omega, h1, h2⟩
      · refine nm_r (nI_1 l) (ih (l + 1) r (by omega) (by omega) (fun i hi => ?_))
        rw [hP i hi]
        constructor
        · rintro ⟨j, hj, h1, h2⟩
          exact ⟨j, by omega, h1, h2⟩
        · rintro ⟨j, hj, h1, h2⟩
          by_cases y : j = l
          · rw [y, ← he] at h1
            exact absurd (Int32.toInt_inj.mp h1) z
          · exact ⟨j, by omega, h1, h2⟩
theorem cu_yupper {post : Int32 → Prop} (W : cu_WF cz co th tI tJ tU tV) (hc : cu_cs cs cz co) (hpost : ∀ r m : Int32, cu_YM cz co th tI tJ tU tV (fun _ => True) m.toInt → (∀ i, i < 32 → (bt r i = true ↔ cu_Or cz co th tI tJ tU tV m.toInt 512 i)) → post r) : wpY_upper post (cs, th, tI, tJ, tU, tV) := by
  unfold wpY_upper
  refine cu_yleast W hc (fun m hm => ⟨513, cu_y9 W hc (fun r hr => hpost r m hm hr) 513 0 0 (by omega) (by omega) (fun i hi => ?_)⟩)
  rw [b_0]
  exact ⟨fun h => absurd h (by decide), fun ⟨j, hj, _⟩ => absurd hj (by omega)⟩
theorem cu_bits (f : Nat → Bool) : ∀ n, ∃ l, l < 2 ^ n ∧ ∀ p, p < n → l.testBit p = f p := by
  intro n
  induction n with
  | zero => exact ⟨0, by omega, fun p hp => absurd hp (by omega)⟩
  | succ n ih =>
    obtain ⟨l, hl, h⟩ := ih
    cases e : f n with
    | false =>
      refine ⟨l, by rw [Nat.pow_succ]; omega, fun p hp => ?_⟩
      by_cases z : p = n
      · rw [z, e]
        exact Nat.testBit_lt_two_pow hl
      · exact h p (by omega)
    | true =>
      refine ⟨2 ^ n + l, by rw [Nat.pow_succ]; omega, fun p hp => ?_⟩
      by_cases z : p = n
      · rw [z, e, Nat.testBit_two_pow_add_eq, Nat.testBit_lt_two_pow hl]
        rfl
      · rw [Nat.testBit_two_pow_add_gt (by omega)]
        exact h p (by omega)
theorem cu_y15 {post : Int32 → Prop} {p : Nat} {x : Int32} (hp : p < 9) (W : cu_WF cz co th tI tJ tU tV) (hc : cu_cs cs cz co) (hpost : ∀ m : Int32, cu_YM cz co th tI tJ tU tV (fun l => l.testBit p = bt x 0) m.toInt → post m) :
    ∀ (n l : Nat) (m : Int32), 512 - l < n → l ≤ 512 → cu_YP cz co th tI tJ tU tV (fun l => l.testBit p = bt x 0) l m.toInt → wY_with_15 post (nI p) x cs th tI tJ tU tV n m (nI l) := by
  intro n
  induction n with
  | zero => intro l m hn; omega
  | succ n ih =>
    intro l m hn hl hP
    rw [wY_with_15]
    by_cases h : l = 512
    · subst h
      obtain ⟨j, hj, hb⟩ := cu_bits (fun _ => bt x 0) 9
      exact br_t (by decide) (hpost m (cu_YP_end W hP ⟨j, hj, hb p hp⟩))
    · refine br_f (nI_ge (b := 512) (by omega) (by decide)) (cu_yef W hc (fun e he => ?_))
      unfold wpY_label
      rw [cu_by (nI l) (p := p) (by omega), cu_bn l (p := p) (by omega), cu_b0x x]
      refine br_c (fun ho => br_c (fun z => ?_) (fun z => ?_)) (fun ho => ?_)
      · rw [Int32.le_iff_toInt_le] at z
        exact nm_r (nI_1 l) (ih (l + 1) m (by omega) (by omega) (cu_YP_keep hP (fun _ => by omega)))
      · rw [Int32.le_iff_toInt_le] at z
        refine nm_r (nI_1 l) (ih (l + 1) e (by omega) (by omega) ?_)
        rw [he]
        exact cu_YP_new hP (cu_lb_inj.mp ho) (by omega)
      · exact nm_r (nI_1 l) (ih (l + 1) m (by omega) (by omega) (cu_YP_keep hP (fun z => absurd (cu_lb_inj.mpr z) ho)))
theorem cu_y27 {post : Int32 → Prop} {p q : Nat} (hp : p < 9) (hq : q < 9) (hne : p ≠ q) (W : cu_WF cz co th tI tJ tU tV) (hc : cu_cs cs cz co) (hpost : ∀ m : Int32, cu_YM cz co th tI tJ tU tV (fun l => ¬ l.testBit p = l.testBit q) m.toInt → post m) :
    ∀ (n l : Nat) (m : Int32), 512 - l < n → l ≤ 512 → cu_YP cz co th tI tJ tU tV (fun l => ¬ l.testBit p = l.testBit q) l m.toInt → wY_apart_27 post (nI p) (nI q) cs th tI tJ tU tV n m (nI l) := by
  intro n
  induction n with
  | zero => intro l m hn; omega
  | succ n ih =>
    intro l m hn hl hP
    rw [wY_apart_27]
    by_cases h : l = 512
    · subst h
      obtain ⟨j, hj, hb⟩ := cu_bits (fun i => decide (i = p)) 9
      refine br_t (by decide) (hpost m (cu_YP_end W hP ⟨j, hj, ?_⟩))
      rw [hb p hp, hb q hq, decide_eq_true rfl, decide_eq_false (fun z => hne z.symm)]
      decide
    · refine br_f (nI_ge (b := 512) (by omega) (by decide)) (cu_yef W hc (fun e he => ?_))
      unfold wpY_label
      rw [cu_by (nI l) (p := p) (by omega), cu_bn l (p := p) (by omega), cu_by (nI l) (p := q) (by omega), cu_bn l (p := q) (by omega)]
      refine br_c (fun ho => ?_) (fun ho => br_c (fun z => ?_) (fun z => ?_))
      · exact nm_r (nI_1 l) (ih (l + 1) m (by omega) (by omega) (cu_YP_keep hP (fun z => absurd (cu_lb_inj.mp ho) z)))
      · rw [Int32.le_iff_toInt_le] at z
        exact nm_r (nI_1 l) (ih (l + 1) m (by omega) (by omega) (cu_YP_keep hP (fun _ => by omega)))
      · rw [Int32.le_iff_toInt_le] at z
        refine nm_r (nI_1 l) (ih (l + 1) e (by omega) (by omega) ?_)
        rw [he]
        exact cu_YP_new hP (fun y => ho (cu_lb_inj.mpr y)) (by omega)
theorem cu_YP_0 {ok : Nat → Prop} : cu_YP cz co th tI tJ tU tV ok 0 (1000000 : Int32).toInt := ⟨Or.inl (by decide), fun l hl => absurd hl (by omega)⟩
end
end
section
/-! cuts and labellings meet -/
/-- t is the least cut's energy of those that are ok -/
def cu_XM (cz co th tI tJ tU tV : Nat → Int32) (ok : (Nat → Bool) → Prop) (t : Int) : Prop :=
  (∃ S, cu_Z S ∧ ok S ∧ cu_E cz co th tI tJ tU tV (cu_nt S) = t) ∧ ∀ S, cu_Z S → ok S → t ≤ cu_E cz co th tI tJ tU tV (cu_nt S)
def cu_lk (S : Nat → Bool) (l : Nat) : Prop := ∀ p, p < 9 → l.testBit p = !S p
theorem cu_lS (S : Nat → Bool) : ∃ l, l < 512 ∧ cu_lk S l := cu_bits (fun p => !S p) 9
theorem cu_Sl (l : Nat) : ∃ S, cu_Z S ∧ cu_lk S l := by
  refine ⟨fun p => if p = 9 then true else if p = 10 then false else !l.testBit p, ⟨rfl, rfl⟩, fun p hp => ?_⟩
  show l.testBit p = !(if p = 9 then true else if p = 10 then false else !l.testBit p)
  rw [if_neg (by omega), if_neg (by omega), Bool.not_not]
section
variable {cs cz co th tI tJ tU tV : Nat → Int32}
theorem cu_lk_E (W : cu_WF cz co th tI tJ tU tV) {S : Nat → Bool} {l : Nat} (h : cu_lk S l) : cu_Ef cz co th tI tJ tU tV l = cu_E cz co th tI tJ tU tV (cu_nt S) :=
  cu_E_cg W (fun p hp => h p hp)
theorem cu_XY (W : cu_WF cz co th tI tJ tU tV) {ok : (Nat → Bool) → Prop} {okl : Nat → Prop} (hok : ∀ S l, cu_Z S → l < 512 → cu_lk S l → (ok S ↔ okl l)) {t t' : Int} (hX : cu_XM cz co th tI tJ tU tV ok t) (hY : cu_YM cz co th tI tJ tU tV okl t') : t' = t := by
  obtain ⟨⟨S, hS, ho, e⟩, hX2⟩ := hX
  obtain ⟨⟨l, hl, hol, el⟩, hY2⟩ := hY
  obtain ⟨l1, hl1, k1⟩ := cu_lS S
  obtain ⟨S1, hS1, k2⟩ := cu_Sl l
  have a1 := hY2 l1 hl1 ((hok S l1 hS hl1 k1).mp ho)
  have a2 := hX2 S1 hS1 ((hok S1 l hS1 hl k2).mpr hol)
  rw [cu_lk_E W k1] at a1
  rw [← cu_lk_E W k2] at a2
  omega
theorem cu_CF_cg {ok ok' : (Nat → Bool) → Prop} {c : Nat → Int} (C : cu_CF cz co th tI tJ tU tV ok c) (h : ∀ S, cu_Z S → (ok S ↔ ok' S)) : cu_CF cz co th tI tJ tU tV ok' c := by
  refine ⟨C.1, C.2.1, fun S hS => ?_⟩
  rw [← h S hS]
  exact C.2.2 S hS
theorem cu_FE_XM (W : cu_WF cz co th tI tJ tU tV) {ok : (Nat → Bool) → Prop} {c r : Nat → Int} {t : Int} {rf : Nat → Int32} (C : cu_CF cz co th tI tJ tU tV ok c) (F : cu_FE c r t rf) (hx : ∃ S, cu_Z S ∧ ok S) : cu_XM cz co th tI tJ tU tV ok t := by
  refine ⟨?_, fun S hS ho => ?_⟩
  · obtain ⟨S, hS, e⟩ := cu_FE_ex F
    rcases C.2.2 S hS with ⟨h1, h2⟩ | ⟨h1, h2⟩
    · exact ⟨S, hS, h1, by rw [← h2]; exact e⟩
    · obtain ⟨S0, hS0, ho⟩ := hx
      have a1 := cu_FE_le F S0 hS0
      have a2 := cu_E_b W (cu_nt S0)
      rcases C.2.2 S0 hS0 with ⟨_, h4⟩ | ⟨h3, _⟩
      · omega
      · exact absurd ho h3
  · have a1 := cu_FE_le F S hS
    rcases C.2.2 S hS with ⟨_, h4⟩ | ⟨h3, _⟩
    · omega
    · exact absurd ho h3
theorem cu_fillX {post : Int32 → SX → Prop} {qe : Int32} {rm rf qu : Nat → Int32} (W : cu_WF cz co th tI tJ tU tV) {ok : (Nat → Bool) → Prop} (C : cu_CF cz co th tI tJ tU tV ok (cu_I rm)) (hx : ∃ S, cu_Z S ∧ ok S)
    (hpost : ∀ t qe rm' rf qu, cu_FE (cu_I rm) (cu_I rm') t.toInt rf → cu_XM cz co th tI tJ tU tV ok t.toInt → post t (qe, cz, co, th, tI, tJ, tU, tV, rm', rf, qu)) : wpX_fill post (qe, cz, co, th, tI, tJ, tU, tV, rm, rf, qu) := by
  obtain ⟨S0, hS0, ho⟩ := hx
  refine cu_fill hS0 ?_ C.1 (cu_UB_PB C.2.1) (fun t qe rm' rf qu F => hpost t qe rm' rf qu F (cu_FE_XM W C F ⟨S0, hS0, ho⟩))
  have a2 := cu_E_b W (cu_nt S0)
  rcases C.2.2 S0 hS0 with ⟨_, h4⟩ | ⟨h3, _⟩
  · omega
  · exact absurd ho h3
theorem cu_Zx : ∃ S, cu_Z S ∧ True := by
  obtain ⟨S, h, _⟩ := cu_Sl 0
  exact ⟨S, h, True.intro⟩
theorem cu_xleast {post : Int32 → SX → Prop} {qe : Int32} {rm rf qu : Nat → Int32} (W : cu_WF cz co th tI tJ tU tV)
    (hpost : ∀ t qe rm rf qu, cu_XM cz co th tI tJ tU tV (fun _ => True) t.toInt → post t (qe, cz, co, th, tI, tJ, tU, tV, rm, rf, qu)) : wpX_least post (qe, cz, co, th, tI, tJ, tU, tV, rm, rf, qu) := by
  unfold wpX_least
  refine cu_build W (fun rm1 C => ?_)
  exact cu_fillX W C cu_Zx (fun t qe rm' rf qu _ M => hpost t qe rm' rf qu M)
/-! lower -/
def cu_Lo (cz co th tI tJ tU tV : Nat → Int32) (t : Int) (i : Nat) : Prop := ∀ S, cu_Z S → cu_E cz co th tI tJ tU tV (cu_nt S) = t → S i = false
def cu_Up (cz co th tI tJ tU tV : Nat → Int32) (t : Int) (i : Nat) : Prop := ∃ S, cu_Z S ∧ cu_E cz co th tI tJ tU tV (cu_nt S) = t ∧ S i = false
theorem cu_EK2 {c : Nat → Int} (C : cu_CF cz co th tI tJ tU tV (fun _ => True) c) {S : Nat → Bool} (hS : cu_Z S) : cu_K S c = cu_E cz co th tI tJ tU tV (cu_nt S) := by
  rcases C.2.2 S hS with ⟨_, h⟩ | ⟨h, _⟩
  · exact h
  · exact absurd True.intro h
theorem cu_E_Cl {c r : Nat → Int} {t : Int} {rf0 : Nat → Int32} (C : cu_CF cz co th tI tJ tU tV (fun _ => True) c) (F : cu_FE c r t rf0) {S : Nat → Bool} (hS : cu_Z S) : cu_E cz co th tI tJ tU tV (cu_nt S) = t ↔ cu_Cl S r := by
  rw [← cu_EK2 C hS]
  exact cu_FE_iff F hS
theorem cu_lo_t {c r : Nat → Int} {t : Int} {rf0 rf : Nat → Int32} {par d : Nat → Nat} {p : Nat} (C : cu_CF cz co th tI tJ tU tV (fun _ => True) c) (F : cu_FE c r t rf0) (H : cu_SR p r rf par d) (hd : d 10 ≤ 10) : cu_Lo cz co th tI tJ tU tV t p := by
  intro S hS e
  have hC := (cu_E_Cl C F hS).mp e
  cases z : S p with
  | false => rfl
  | true =>
    have h := cu_SR_in H hC z (d 10) 10 (by omega) rfl hd
    rw [hS.2] at h
    exact h.symm
theorem cu_lo_f {c r : Nat → Int} {t : Int} {rf0 rf : Nat → Int32} {par d : Nat → Nat} {p : Nat} (C : cu_CF cz co th tI tJ tU tV (fun _ => True) c) (F : cu_FE c r t rf0) (H : cu_SR p r rf par d) (hd : ¬ d 10 ≤ 10) : ¬ cu_Lo cz co th tI tJ tU tV t p := by
  intro hL
  obtain ⟨par9, d9, H9, h9⟩ := F.2.2
  have c1 := cu_RS_Cl H F.2.1
  have c2 := cu_RS_Cl H9 F.2.1
  have z9 := cu_FE_Z H9 h9
  have hZ : cu_Z (fun x => cu_RS d x || cu_RS d9 x) := by
    refine ⟨?_, ?_⟩
    · show (cu_RS d 9 || cu_RS d9 9) = true
      rw [z9.1, Bool.or_true]
    · show (cu_RS d 10 || cu_RS d9 10) = false
      rw [z9.2, Bool.or_false]
      exact decide_eq_false hd
  have hC : cu_Cl (fun x => cu_RS d x || cu_RS d9 x) r := by
    intro x y hx hy h1 h2
    have h1' : (cu_RS d x || cu_RS d9 x) = true := h1
    have h2' : (cu_RS d y || cu_RS d9 y) = false := h2
    rw [Bool.or_eq_false_iff] at h2'
    rw [Bool.or_eq_true] at h1'
    rcases h1' with h | h
    · exact c1 x y hx hy h h2'.1
    · exact c2 x y hx hy h h2'.2
  have e := hL _ hZ ((cu_E_Cl C F hZ).mpr hC)
  have e' : (cu_RS d p || cu_RS d9 p) = false := e
  have e2 : cu_RS d p = true := decide_eq_true (by rw [H.1.2.1]; omega)
  rw [e2, Bool.true_or] at e'
  exact absurd e' (by decide)
theorem cu_rf10 {r : Nat → Int} {rf : Nat → Int32} {par d : Nat → Nat} {s p : Nat} (H : cu_SR s r rf par d) (hp : p < 11) (hs : p ≠ s) : (rf p < 0 ↔ ¬ d p ≤ 10) ∧ (0 ≤ rf p ↔ d p ≤ 10) := by
  by_cases hd : d p ≤ 10
  · have h1 := (H.1.2.2 p hp hd hs).1
    have h2 := H.2.2.2.2.1 p hp hd
    rw [h2]
    exact ⟨⟨fun z => absurd z (nI_pos (by omega)), fun z => absurd hd z⟩, ⟨fun _ => hd, fun _ => nI_pos' (by omega)⟩⟩
  · have h2 := H.2.2.2.2.2 p hp hd
    rw [h2]
    exact ⟨⟨fun _ => hd, fun _ => by decide⟩, ⟨fun z => absurd z (by decide), fun z => absurd z hd⟩⟩
theorem cu_or0 (x : Int32) : x ||| 0 = x := by
  apply b_ext
  intro i hi
  rw [b_or, b_0, Bool.or_false]
theorem cu_or1 (x : Int32) {p i : Nat} (hp : p < 32) (hi : i < 32) : bt (x ||| ((1 : Int32) <<< (nI p &&& 31))) i = true ↔ (bt x i = true ∨ i = p) := by
  rw [b_or, b_shl p hp 1 hi, cu_b1 (i - p) (by omega), Bool.or_eq_true, Bool.and_eq_true, decide_eq_true_eq, decide_eq_true_eq]
  constructor
  · rintro (h | h)
    · exact Or.inl h
    · exact Or.inr (by omega)
  · rintro (h | h)
    · exact Or.inl h
    · exact Or.inr (by omega)
theorem cu_x13 {post : Int32 → SX → Prop} {c : Nat → Int} {t : Int} {rm rf0 : Nat → Int32} (C : cu_CF cz co th tI tJ tU tV (fun _ => True) c) (F : cu_FE c (cu_I rm) t rf0)
    (hpost : ∀ (r : Int32) qe rf qu, (∀ i, i < 32 → (bt r i = true ↔ i < 9 ∧ cu_Lo cz co th tI tJ tU tV t i)) → post r (qe, cz, co, th, tI, tJ, tU, tV, rm, rf, qu)) :
    ∀ (n p : Nat) (x qe : Int32) (rf qu : Nat → Int32), 9 - p < n → p ≤ 9 → (∀ i, i < 32 → (bt x i = true ↔ i < p ∧ cu_Lo cz co th tI tJ tU tV t i)) → wX_lower_13 post n x (nI p) qe cz co th tI tJ tU tV rm rf qu := by
  intro n
  induction n with
  | zero => intro p x qe rf qu hn; omega
  | succ n ih =>
    intro p x qe rf qu hn hp hx
    rw [wX_lower_13]
    by_cases h9 : p = 9
    · subst h9
      exact br_t (by decide) (hpost x qe rf qu hx)
    · refine br_f (nI_ge (b := 9) (by omega) (by decide)) (cu_search (s := p) (by omega) (fun qe' rf' qu' par d H => ?_))
      have q := (cu_rf10 H (p := 10) (by omega) (by omega)).1
      by_cases hd : d 10 ≤ 10
      · have hl := cu_lo_t C F H hd
        refine br_f (fun z => absurd hd (q.mp z)) (nm_e (nm_r (nI_1 p) (ih (p + 1) _ qe' rf' qu' (by omega) (by omega) (fun i hi => ?_))))
        rw [cu_or1 x (by omega) hi, hx i hi]
        constructor
        · rintro (⟨h1, h2⟩ | h)
          · exact ⟨by omega, h2⟩
          · rw [h]; exact ⟨by omega, hl⟩
        · rintro ⟨h1, h2⟩
          by_cases z : i = p
          · exact Or.inr z
          · exact Or.inl ⟨by omega, h2⟩
      · have hl := cu_lo_f C F H hd
        refine br_t (q.mpr hd) (nm_r (cu_or0 x) (nm_r (nI_1 p) (ih (p + 1) x qe' rf' qu' (by omega) (by omega) (fun i hi => ?_))))
        rw [hx i hi]
        constructor
        · rintro ⟨h1, h2⟩
          exact ⟨by omega, h2⟩
        · rintro ⟨h1, h2⟩
          refine ⟨?_, h2⟩
          by_cases z : i = p
          · rw [z] at h2
            exact absurd h2 hl
          · omega
theorem cu_xlower {post : Int32 → SX → Prop} {qe : Int32} {rm rf qu : Nat → Int32} (W : cu_WF cz co th tI tJ tU tV)
    (hpost : ∀ (r t : Int32) qe rm rf qu, cu_XM cz co th tI tJ tU tV (fun _ => True) t.toInt → (∀ i, i < 32 → (bt r i = true ↔ i < 9 ∧ cu_Lo cz co th tI tJ tU tV t.toInt i)) → post r (qe, cz, co, th, tI, tJ, tU, tV, rm, rf, qu)) : wpX_lower post (qe, cz, co, th, tI, tJ, tU, tV, rm, rf, qu) := by
  unfold wpX_lower
  refine cu_build W (fun rm1 C => ?_)
  refine cu_fillX W C cu_Zx (fun t qe2 rm2 rf2 qu2 F M => ?_)
  refine ⟨10, cu_x13 C F (fun r qe rf qu hr => hpost r t qe rm2 rf qu M hr) 10 0 0 qe2 rf2 qu2 (by omega) (by omega) (fun i hi => ?_)⟩
  rw [b_0]
  exact ⟨fun h => absurd h (by decide), fun h => absurd h.1 (by omega)⟩
/-! upper -/
theorem cu_up_f {c r : Nat → Int} {t : Int} {rf0 rf : Nat → Int32} {par d : Nat → Nat} {p : Nat} (C : cu_CF cz co th tI tJ tU tV (fun _ => True) c) (F : cu_FE c r t rf0) (H : cu_SR 9 r rf par d) (hp : p < 11) (hd : d p ≤ 10) : ¬ cu_Up cz co th tI tJ tU tV t p := by
  rintro ⟨S, hS, e, h⟩
  have h2 := cu_SR_in H ((cu_E_Cl C F hS).mp e) hS.1 (d p) p hp rfl hd
  rw [h] at h2
  exact absurd h2 (by decide)
theorem cu_up_t {c r : Nat → Int} {t : Int} {rf0 rf : Nat → Int32} {par d : Nat → Nat} {p : Nat} (C : cu_CF cz co th tI tJ tU tV (fun _ => True) c) (F : cu_FE c r t rf0) (H : cu_SR 9 r rf par d) (hd : ¬ d p ≤ 10) : cu_Up cz co th tI tJ tU tV t p := by
  obtain ⟨par9, d9, H9, h9⟩ := F.2.2
  have z9 := cu_FE_Z H9 h9
  have h10 : ¬ d 10 ≤ 10 := fun z => by
    have h := cu_SR_in H (cu_RS_Cl H9 F.2.1) z9.1 (d 10) 10 (by omega) rfl z
    rw [z9.2] at h
    exact absurd h (by decide)
  have hZ := cu_FE_Z H h10
  exact ⟨cu_RS d, hZ, (cu_E_Cl C F hZ).mpr (cu_RS_Cl H F.2.1), decide_eq_false hd⟩
theorem cu_x19 {post : Int32 → SX → Prop} {c : Nat → Int} {t : Int} {qe : Int32} {rm rf0 rf qu : Nat → Int32} {par d : Nat → Nat} (C : cu_CF cz co th tI tJ tU tV (fun _ => True) c) (F : cu_FE c (cu_I rm) t rf0) (H : cu_SR 9 (cu_I rm) rf par d)
    (hpost : ∀ (r : Int32), (∀ i, i < 32 → (bt r i = true ↔ i < 9 ∧ cu_Up cz co th tI tJ tU tV t i)) → post r (qe, cz, co, th, tI, tJ, tU, tV, rm, rf, qu)) :
    ∀ (n p : Nat) (x : Int32), 9 - p < n → p ≤ 9 → (∀ i, i < 32 → (bt x i = true ↔ i < p ∧ cu_Up cz co th tI tJ tU tV t i)) → wX_upper_19 post qe cz co th tI tJ tU tV rm rf qu n x (nI p) := by
  intro n
  induction n with
  | zero => intro p x hn; omega
  | succ n ih =>
    intro p x hn hp hx
    rw [wX_upper_19]
    by_cases h9 : p = 9
    · subst h9
      exact br_t (by decide) (hpost x hx)
    · refine br_f (nI_ge (b := 9) (by omega) (by decide)) ⟨vp_in_nI (by omega) (by decide), ?_⟩
      rw [nI_clamp (n := p) (by omega)]
      have q := (cu_rf10 H (p := p) (by omega) h9).2
      by_cases hd : d p ≤ 10
      · have hl := cu_up_f C F H (p := p) (by omega) hd
        refine br_t (q.mpr hd) (nm_r (cu_or0 x) (nm_r (nI_1 p) (ih (p + 1) x (by omega) (by omega) (fun i hi => ?_))))
        rw [hx i hi]
        constructor
        · rintro ⟨h1, h2⟩
          exact ⟨by omega, h2⟩
        · rintro ⟨h1, h2⟩
          refine ⟨?_, h2⟩
          by_cases z : i = p
          · rw [z] at h2
            exact absurd h2 hl
          · omega
      · have hl := cu_up_t C F H hd
        refine br_f (fun z => hd (q.mp z)) (nm_e (nm_r (nI_1 p) (ih (p + 1) _ (by omega) (by omega) (fun i hi => ?_))))
        rw [cu_or1 x (by omega) hi, hx i hi]
        constructor
        · rintro (⟨h1, h2⟩ | h)
          · exact ⟨by omega, h2⟩
          · rw [h]; exact ⟨by omega, hl⟩
        · rintro ⟨h1, h2⟩
          by_cases z : i = p
          · exact Or.inr z
          · exact Or.inl ⟨by omega, h2⟩
theorem cu_xupper {post : Int32 → SX → Prop} {qe : Int32} {rm rf qu : Nat → Int32} (W : cu_WF cz co th tI tJ tU tV)
    (hpost : ∀ (r t : Int32) qe rm rf qu, cu_XM cz co th tI tJ tU tV (fun _ => True) t.toInt → (∀ i, i < 32 → (bt r i = true ↔ i < 9 ∧ cu_Up cz co th tI tJ tU tV t.toInt i)) → post r (qe, cz, co, th, tI, tJ, tU, tV, rm, rf, qu)) : wpX_upper post (qe, cz, co, th, tI, tJ, tU, tV, rm, rf, qu) := by
  unfold wpX_upper
  refine cu_build W (fun rm1 C => ?_)
  refine cu_fillX W C cu_Zx (fun t qe2 rm2 rf2 qu2 F M => ?_)
  refine cu_search (s := 9) (by omega) (fun qe3 rf3 qu3 par d H => ?_)
  refine ⟨10, cu_x19 C F H (fun r hr => hpost r t qe3 rm2 rf3 qu3 M hr) 10 0 0 (by omega) (by omega) (fun i hi => ?_)⟩
  rw [b_0]
  exact ⟨fun h => absurd h (by decide), fun h => absurd h.1 (by omega)⟩
/-! the masks meet -/
theorem cu_lo_eq (W : cu_WF cz co th tI tJ tU tV) (t : Int) (i : Nat) : (i < 9 ∧ cu_Lo cz co th tI tJ tU tV t i) ↔ cu_And cz co th tI tJ tU tV t 512 i := by
  constructor
  · rintro ⟨hi, hL⟩
    refine ⟨hi, fun l hl e => ?_⟩
    obtain ⟨S, hS, k⟩ := cu_Sl l
    rw [cu_lk_E W k] at e
    rw [k i hi, hL S hS e]
    rfl
  · rintro ⟨hi, hA⟩
    refine ⟨hi, fun S hS e => ?_⟩
    obtain ⟨l, hl, k⟩ := cu_lS S
    rw [← cu_lk_E W k] at e
    have h := hA l hl e
    rw [k i hi, Bool.not_eq_true'] at h
    exact h
theorem cu_up_eq (W : cu_WF cz co th tI tJ tU tV) (t : Int) (i : Nat) : (i < 9 ∧ cu_Up cz co th tI tJ tU tV t i) ↔ cu_Or cz co th tI tJ tU tV t 512 i := by
  constructor
  · rintro ⟨hi, S, hS, e, h⟩
    obtain ⟨l, hl, k⟩ := cu_lS S
    rw [← cu_lk_E W k] at e
    exact ⟨l, hl, e, by rw [k i hi, h]; rfl⟩
  · rintro ⟨l, hl, e, h⟩
    have hi : i < 9 := by
      apply Classical.byContradiction
      intro hn
      have h2 : l < 2 ^ i := Nat.lt_of_lt_of_le hl (Nat.pow_le_pow_right (n := 2) (by omega) (show 9 ≤ i by omega))
      rw [Nat.testBit_lt_two_pow h2] at h
      exact absurd h (by decide)
    obtain ⟨S, hS, k⟩ := cu_Sl l
    rw [cu_lk_E W k] at e
    rw [k i hi, Bool.not_eq_true'] at h
    exact ⟨hi, S, hS, e, h⟩
end
end
section
/-! places and costs, forced labels -/
theorem cu_pd (x : Int32) : (x < 0 ∨ 8 < x) ∨ ∃ p, p < 9 ∧ x = nI p := by
  by_cases h : x < 0
  · exact Or.inl (Or.inl h)
  · obtain ⟨j, hj, rfl⟩ := nI_of h
    by_cases h2 : j < 9
    · exact Or.inr ⟨j, h2, rfl⟩
    · exact Or.inl (Or.inr (nI_lt (a := 8) (by omega) hj))
theorem cu_td (x : Int32) : (x < 0 ∨ 15 < x) ∨ ∃ t, t < 16 ∧ x = nI t := by
  by_cases h : x < 0
  · exact Or.inl (Or.inl h)
  · obtain ⟨j, hj, rfl⟩ := nI_of h
    by_cases h2 : j < 16
    · exact Or.inr ⟨j, h2, rfl⟩
    · exact Or.inl (Or.inr (nI_lt (a := 15) (by omega) hj))
theorem cu_cd (x : Int32) : (x < 0 ∨ 100 < x) ∨ (0 ≤ x.toInt ∧ x.toInt ≤ 100) := by
  by_cases h : x < 0
  · exact Or.inl (Or.inl h)
  · by_cases h2 : 100 < x
    · exact Or.inl (Or.inr h2)
    · rw [Int32.lt_iff_toInt_lt, Int32.toInt_zero] at h
      rw [Int32.lt_iff_toInt_lt, show (100 : Int32).toInt = 100 from by decide] at h2
      exact Or.inr ⟨by omega, by omega⟩
theorem cu_ip_n {post : Int32 → Prop} {x : Int32} (h : x < 0 ∨ 8 < x) (hp : post 0) : wpX_isPlace post x := br_c (fun _ => hp) (fun z => br_t (h.resolve_left z) hp)
theorem cu_ip_y {post : Int32 → Prop} {p : Nat} (h : p < 9) (hp : post 1) : wpX_isPlace post (nI p) := br_f (nI_pos (by omega)) (br_f (nI_nlt (a := 8) (by omega) (by decide)) hp)
theorem cu_yb_y {post : Int32 → Prop} {x : Int32} (h : x < 0 ∨ 8 < x) (hp : post 1) : wpY_bad post x := br_c (fun _ => hp) (fun z => br_f (Int32.not_le.mpr (h.resolve_left z)) hp)
theorem cu_yb_n {post : Int32 → Prop} {p : Nat} (h : p < 9) (hp : post 0) : wpY_bad post (nI p) := br_f (nI_pos (by omega)) (br_t (nI_le (b := 8) (by omega) (by omega)) hp)
theorem cu_ic_n {post : Int32 → Prop} {x : Int32} (h : x < 0 ∨ 100 < x) (hp : post 0) : wpX_isCost post x := br_c (fun _ => hp) (fun z => br_t (h.resolve_left z) hp)
theorem cu_c0 {x : Int32} (h : 0 ≤ x.toInt ∧ x.toInt ≤ 100) : ¬ x < 0 := by
  rw [Int32.lt_iff_toInt_lt, Int32.toInt_zero]
  omega
theorem cu_c100 {x : Int32} (h : 0 ≤ x.toInt ∧ x.toInt ≤ 100) : x ≤ 100 := by
  rw [Int32.le_iff_toInt_le, show (100 : Int32).toInt = 100 from by decide]
  omega
theorem cu_ic_y {post : Int32 → Prop} {x : Int32} (h : 0 ≤ x.toInt ∧ x.toInt ≤ 100) (hp : post 1) : wpX_isCost post x := br_f (cu_c0 h) (br_f (Int32.not_lt.mpr (cu_c100 h)) hp)
theorem cu_yc_y {post : Int32 → Prop} {x : Int32} (h : x < 0 ∨ 100 < x) (hp : post 1) : wpY_badCost post x := br_c (fun _ => hp) (fun z => br_f (Int32.not_le.mpr (h.resolve_left z)) hp)
theorem cu_yc_n {post : Int32 → Prop} {x : Int32} (h : 0 ≤ x.toInt ∧ x.toInt ≤ 100) (hp : post 0) : wpY_badCost post x := br_f (cu_c0 h) (br_t (cu_c100 h) hp)
theorem cu_Zp {p q : Nat} (hp : p < 9) (hq : q < 9) (hne : p ≠ q) (a b : Bool) : ∃ S, cu_Z S ∧ S p = a ∧ S q = b := by
  refine ⟨fun x => if x = 9 then true else if x = 10 then false else if x = p then a else b, ⟨rfl, rfl⟩, ?_, ?_⟩
  · show (if p = 9 then true else if p = 10 then false else if p = p then a else b) = a
    rw [if_neg (by omega), if_neg (by omega), if_pos rfl]
  · show (if q = 9 then true else if q = 10 then false else if q = p then a else b) = b
    rw [if_neg (by omega), if_neg (by omega), if_neg (fun z => hne z.symm)]
section
variable {cs cz co th tI tJ tU tV : Nat → Int32}
theorem cu_CF_0 {ok : (Nat → Bool) → Prop} {rm : Nat → Int32} {p : Nat} (hp : p < 9) (C : cu_CF cz co th tI tJ tU tV ok (cu_I rm)) : cu_CF cz co th tI tJ tU tV (fun S => ok S ∧ S p = true) (cu_I (upd rm (11 * 9 + p) 1000000)) := by
  refine cu_CF_cg (cu_CF_f (x := 9) (y := p) (by omega) (by omega) C) (fun S hS => ?_)
  rw [hS.1]
  cases S p <;> simp
theorem cu_CF_1 {ok : (Nat → Bool) → Prop} {rm : Nat → Int32} {p : Nat} (hp : p < 9) (C : cu_CF cz co th tI tJ tU tV ok (cu_I rm)) : cu_CF cz co th tI tJ tU tV (fun S => ok S ∧ S p = false) (cu_I (upd rm (11 * p + 10) 1000000)) := by
  refine cu_CF_cg (cu_CF_f (x := p) (y := 10) (by omega) (by omega) C) (fun S hS => ?_)
  rw [hS.2]
  cases S p <;> simp
theorem cu_xwith {post : Int32 → SX → Prop} {qe x : Int32} {rm rf qu : Nat → Int32} {p : Nat} (hp : p < 9) (W : cu_WF cz co th tI tJ tU tV)
    (hpost : ∀ t qe rm rf qu, cu_XM cz co th tI tJ tU tV (fun S => S p = !bt x 0) t.toInt → post t (qe, cz, co, th, tI, tJ, tU, tV, rm, rf, qu)) : wpX_with post (qe, cz, co, th, tI, tJ, tU, tV, rm, rf, qu) (nI p) x := by
  unfold wpX_with
  refine cu_ip_y hp (br_f (by decide) (cu_build W (fun rm1 C => ?_)))
  dsimp only
  rw [cu_b0x x]
  obtain ⟨S, hS, h1, _⟩ := cu_Zp hp (q := if p = 0 then 1 else 0) (by split <;> omega) (by split <;> omega) (!bt x 0) true
  revert hpost h1
  cases bt x 0 <;> intro hpost h1
  · refine cu_force0 hp ?_
    exact cu_fillX W (cu_CF_cg (cu_CF_0 hp C) (ok' := fun S => S p = !false) (fun S hS => ⟨fun z => z.2, fun z => ⟨True.intro, z⟩⟩)) ⟨S, hS, h1⟩ (fun t qe rm' rf qu _ M => hpost t qe rm' rf qu M)
  · refine cu_force1 hp (by decide) ?_
    exact cu_fillX W (cu_CF_cg (cu_CF_1 hp C) (ok' := fun S => S p = !true) (fun S hS => ⟨fun z => z.2, fun z => ⟨True.intro, z⟩⟩)) ⟨S, hS, h1⟩ (fun t qe rm' rf qu _ M => hpost t qe rm' rf qu M)
theorem cu_XM_1 {ok ok1 ok2 : (Nat → Bool) → Prop} {a b : Int} (h1 : cu_XM cz co th tI tJ tU tV ok1 a) (h2 : cu_XM cz co th tI tJ tU tV ok2 b) (ho : ∀ S, ok S ↔ ok1 S ∨ ok2 S) (h : a ≤ b) : cu_XM cz co th tI tJ tU tV ok a := by
  obtain ⟨⟨S, hS, o, e⟩, l1⟩ := h1
  refine ⟨⟨S, hS, (ho S).mpr (Or.inl o), e⟩, fun R hR oR => ?_⟩
  rcases (ho R).mp oR with z | z
  · exact l1 R hR z
  · exact Int.le_trans h (h2.2 R hR z)
theorem cu_xapart {post : Int32 → SX → Prop} {qe : Int32} {rm rf qu : Nat → Int32} {p q : Nat} (hp : p < 9) (hq : q < 9) (hne : p ≠ q) (W : cu_WF cz co th tI tJ tU tV)
    (hpost : ∀ t qe rm rf qu, cu_XM cz co th tI tJ tU tV (fun S => ¬ S p = S q) t.toInt → post t (qe, cz, co, th, tI, tJ, tU, tV, rm, rf, qu)) : wpX_apart post (qe, cz, co, th, tI, tJ, tU, tV, rm, rf, qu) (nI p) (nI q) := by
  have hpq : ¬ nI p = nI q := fun z => hne ((nI_eq (by omega) (by omega)).mp z)
  obtain ⟨S1, hS1, s1, s2⟩ := cu_Zp hp hq hne true false
  obtain ⟨S2, hS2, s3, s4⟩ := cu_Zp hp hq hne false true
  have o1 : ∀ S : Nat → Bool, (¬ S p = S q) ↔ ((True ∧ S p = true) ∧ S q = false) ∨ ((True ∧ S p = false) ∧ S q = true) := by
    intro S
    cases S p <;> cases S q <;> simp
  have o2 : ∀ S : Nat → Bool, (¬ S p = S q) ↔ ((True ∧ S p = false) ∧ S q = true) ∨ ((True ∧ S p = true) ∧ S q = false) := by
    intro S
    cases S p <;> cases S q <;> simp
  unfold wpX_apart
  refine cu_ip_y hp (br_f (by decide) (cu_ip_y hq (br_f (by decide) (br_f hpq (cu_build W (fun rm1 C => ?_))))))
  refine cu_force0 hp (cu_force1 hq (by decide) ?_)
  refine cu_fillX W (cu_CF_1 hq (cu_CF_0 hp C)) ⟨S1, hS1, ⟨True.intro, s1⟩, s2⟩ (fun a qe1 rm2 rf1 qu1 _ M1 => ?_)
  refine cu_build W (fun rm3 C3 => ?_)
  refine cu_force1 hp (by decide) (cu_force0 hq ?_)
  refine cu_fillX W (cu_CF_0 hq (cu_CF_1 hp C3)) ⟨S2, hS2, ⟨True.intro, s3⟩, s4⟩ (fun b qe2 rm4 rf2 qu2 _ M2 => ?_)
  refine br_c (fun z => ?_) (fun z => ?_)
  · rw [Int32.le_iff_toInt_le] at z
    exact hpost b qe2 rm4 rf2 qu2 (cu_XM_1 M2 M1 o2 z)
  · rw [Int32.le_iff_toInt_le] at z
    exact hpost a qe2 rm4 rf2 qu2 (cu_XM_1 M1 M2 o1 (by omega))
theorem cu_WF_cost (W : cu_WF cz co th tI tJ tU tV) {p : Nat} {z o : Int32} (hz : 0 ≤ z.toInt ∧ z.toInt ≤ 100) (ho : 0 ≤ o.toInt ∧ o.toInt ≤ 100) : cu_WF (upd cz p z) (upd co p o) th tI tJ tU tV := by
  refine ⟨fun q hq => ?_, W.2⟩
  by_cases e : q = p
  · rw [e, pk_us, pk_us]
    exact ⟨hz.1, hz.2, ho.1, ho.2⟩
  · rw [pk_un e, pk_un e]
    exact W.1 q hq
theorem cu_cs_cost (hc : cu_cs cs cz co) {p : Nat} {z o : Int32} : cu_cs (upd (upd cs (2 * p) z) (2 * p + 1) o) (upd cz p z) (upd co p o) := by
  intro q hq
  by_cases e : q = p
  · rw [e, pk_us, pk_us, pk_us, pk_un (by omega), pk_us]
    exact ⟨rfl, rfl⟩
  · rw [pk_un e, pk_un e, pk_un (by omega), pk_un (by omega), pk_un (by omega), pk_un (by omega)]
    exact hc q hq
theorem cu_WF_tie (W : cu_WF cz co th tI tJ tU tV) {t i j : Nat} {h u v : Int32} (hi : i < 9) (hj : j < 9) (hne : i ≠ j) (hu : 0 ≤ u.toInt ∧ u.toInt ≤ 100) (hv : 0 ≤ v.toInt ∧ v.toInt ≤ 100) : cu_WF cz co (upd th t h) (upd tI t (nI i)) (upd tJ t (nI j)) (upd tU t u) (upd tV t v) := by
  refine ⟨W.1, fun s hs => ?_⟩
  by_cases e : s = t
  · rw [e, pk_us, pk_us, pk_us, pk_us, pk_us]
    exact ⟨⟨i, j, hi, hj, rfl, rfl, Or.inr hne⟩, hu.1, hu.2, hv.1, hv.2⟩
  · rw [pk_un e, pk_un e, pk_un e, pk_un e, pk_un e]
    exact W.2 s hs
theorem cu_WF_cut (W : cu_WF cz co th tI tJ tU tV) {t : Nat} : cu_WF cz co (upd th t (vp_nar .boolean 0)) tI tJ tU tV := by
  refine ⟨W.1, fun s hs => ?_⟩
  by_cases e : s = t
  · obtain ⟨⟨i, j, hi, hj, ei, ej, _⟩, h⟩ := W.2 s hs
    rw [e, pk_us]
    rw [e] at ei ej h
    exact ⟨⟨i, j, hi, hj, ei, ej, Or.inl rfl⟩, h⟩
  · rw [pk_un e]
    exact W.2 s hs
end
end
section
/-- the relation: equal ties, the costs by place, all within their bounds; rooms, queue and parents are free -/
def i_Rel (k : Nat) (u : SX) (v : SY) : Prop := ∃ (qe : Int32) (cz co th tI tJ tU tV rm rf qu cs : Nat → Int32), u = (qe, cz, co, th, tI, tJ, tU, tV, rm, rf, qu) ∧ v = (cs, th, tI, tJ, tU, tV) ∧ cu_WF cz co th tI tJ tU tV ∧ cu_cs cs cz co
theorem cu_rel {k : Nat} {qe : Int32} {cz co th tI tJ tU tV rm rf qu cs : Nat → Int32} (W : cu_WF cz co th tI tJ tU tV) (hc : cu_cs cs cz co) : i_Rel k (qe, cz, co, th, tI, tJ, tU, tV, rm, rf, qu) (cs, th, tI, tJ, tU, tV) := ⟨qe, cz, co, th, tI, tJ, tU, tV, rm, rf, qu, cs, rfl, rfl, W, hc⟩
theorem i_up {k : Nat} {u : SX} {v : SY} (h : i_Rel k u v) : i_Rel (k + 6) u v := h
theorem i_vc0 : wpX_init (fun u => wpY_init (fun v => i_Rel 0 u v)) := by
  refine cu_rel (k := 0) ⟨fun p _ => ?_, fun t _ => ?_⟩ (fun p _ => ⟨rfl, rfl⟩)
  · show 0 ≤ (0 : Int32).toInt ∧ (0 : Int32).toInt ≤ 100 ∧ 0 ≤ (0 : Int32).toInt ∧ (0 : Int32).toInt ≤ 100
    decide
  · refine ⟨⟨0, 0, by omega, by omega, rfl, rfl, Or.inl rfl⟩, ?_⟩
    show 0 ≤ (0 : Int32).toInt ∧ (0 : Int32).toInt ≤ 100 ∧ 0 ≤ (0 : Int32).toInt ∧ (0 : Int32).toInt ≤ 100
    decide
theorem i_vc_cost {k : Nat} {u : SX} {v : SY} (I : i_Rel k u v) (hk : k + 6 ≤ 3072) (v1 : Int32) (v2 : Int32) (v3 : Int32) : wpX_cost (fun r u' => wpY_cost (fun r' v' => r' = r ∧ i_Rel (k + 6) u' v') v v1 v2 v3) u v1 v2 v3 := by
  obtain ⟨qe, cz, co, th, tI, tJ, tU, tV, rm, rf, qu, cs, rfl, rfl, W, hc⟩ := I
  unfold wpX_cost wpY_cost
  dsimp only
  rcases cu_pd v1 with h1 | ⟨p, hp, rfl⟩
  · exact cu_ip_n h1 (br_t rfl (cu_yb_y h1 (br_f (by decide) ⟨rfl, cu_rel W hc⟩)))
  · rcases cu_cd v2 with h2 | h2
    · exact cu_ip_y hp (br_f (by decide) (cu_ic_n h2 (br_t rfl (cu_yb_n hp (br_t rfl (cu_yc_y h2 (br_f (by decide) ⟨rfl, cu_rel W hc⟩)))))))
    · rcases cu_cd v3 with h3 | h3
      · exact cu_ip_y hp (br_f (by decide) (cu_ic_y h2 (br_f (by decide) (cu_ic_n h3 (br_t rfl (cu_yb_n hp (br_t rfl (cu_yc_n h2 (br_t rfl (cu_yc_y h3 (br_f (by decide) ⟨rfl, cu_rel W hc⟩)))))))))))
      · have vp : vp_in (nI p) 9 := vp_in_nI hp (by decide)
        have cp : (nI p).toNatClampNeg = p := nI_clamp (by omega)
        have i1 : (2 : Int32) * nI p = nI (2 * p) := pk_mul 2 p
        have c1 : (nI (2 * p)).toNatClampNeg = 2 * p := nI_clamp (by omega)
        have c2 : (nI (2 * p + 1)).toNatClampNeg = 2 * p + 1 := nI_clamp (by omega)
        rw [cp, i1, nI_1 (2 * p), c1, c2]
        exact cu_ip_y hp (br_f (by decide) (cu_ic_y h2 (br_f (by decide) (cu_ic_y h3 (br_f (by decide) ⟨vp, nm_e ⟨vp, nm_e (cu_yb_n hp (br_t rfl (cu_yc_n h2 (br_t rfl (cu_yc_n h3 (br_t rfl ⟨vp_in_nI (by omega) (by decide), nm_e ⟨vp_in_nI (by omega) (by decide), nm_e ⟨rfl, cu_rel (cu_WF_cost W h2 h3) (cu_cs_cost hc)⟩⟩⟩))))))⟩⟩)))))
theorem i_vc_tie {k : Nat} {u : SX} {v : SY} (I : i_Rel k u v) (hk : k + 6 ≤ 3072) (v1 : Int32) (v2 : Int32) (v3 : Int32) (v4 : Int32) (v5 : Int32) : wpX_tie (fun r u' => wpY_tie (fun r' v' => r' = r ∧ i_Rel (k + 6) u' v') v v1 v2 v3 v4 v5) u v1 v2 v3 v4 v5 := by
  obtain ⟨qe, cz, co, th, tI, tJ, tU, tV, rm, rf, qu, cs, rfl, rfl, W, hc⟩ := I
  unfold wpX_tie wpY_tie
  dsimp only
  by_cases n0 : v1 < 0
  · exact br_t n0 (br_t n0 ⟨rfl, cu_rel W hc⟩)
  refine br_f n0 ?_
  by_cases n1 : 15 < v1
  · exact br_t n1 (br_f n0 (br_t n1 ⟨rfl, cu_rel W hc⟩))
  refine br_f n1 ?_
  rcases cu_pd v2 with h2 | ⟨i, hi, rfl⟩
  · exact cu_ip_n h2 (br_t rfl (br_f n0 (br_f n1 (cu_yb_y h2 (br_f (by decide) ⟨rfl, cu_rel W hc⟩)))))
  refine cu_ip_y hi (br_f (by decide) ?_)
  rcases cu_pd v3 with h3 | ⟨j, hj, rfl⟩
  · exact cu_ip_n h3 (br_t rfl (br_f n0 (br_f n1 (cu_yb_n hi (br_t rfl (cu_yb_y h3 (br_f (by decide) ⟨rfl, cu_rel W hc⟩)))))))
  refine cu_ip_y hj (br_f (by decide) ?_)
  by_cases hne : nI i = nI j
  · exact br_t hne (br_f n0 (br_f n1 (cu_yb_n hi (br_t rfl (cu_yb_n hj (br_t rfl (br_t hne ⟨rfl, cu_rel W hc⟩)))))))
  refine br_f hne ?_
  rcases cu_cd v4 with h4 | h4
  · exact cu_ic_n h4 (br_t rfl (br_f n0 (br_f n1 (cu_yb_n hi (br_t rfl (cu_yb_n hj (br_t rfl (br_f hne (cu_yc_y h4 (br_f (by decide) ⟨rfl, cu_rel W hc⟩))))))))))
  refine cu_ic_y h4 (br_f (by decide) ?_)
  rcases cu_cd v5 with h5 | h5
  · exact cu_ic_n h5 (br_t rfl (br_f n0 (br_f n1 (cu_yb_n hi (br_t rfl (cu_yb_n hj (br_t rfl (br_f hne (cu_yc_n h4 (br_t rfl (cu_yc_y h5 (br_f (by decide) ⟨rfl, cu_rel W hc⟩))))))))))))
  refine cu_ic_y h5 (br_f (by decide) ?_)
  have hij : i ≠ j := fun z => hne (by rw [z])
  rcases cu_td v1 with h1 | ⟨t, ht, rfl⟩
  · rcases h1 with h1 | h1
    · exact absurd h1 n0
    · exact absurd h1 n1
  have vt : vp_in (nI t) 16 := vp_in_nI ht (by decide)
  have ct : (nI t).toNatClampNeg = t := nI_clamp (by omega)
  rw [ct]
  exact ⟨vt, nm_e ⟨vt, nm_e ⟨vt, nm_e ⟨vt, nm_e ⟨vt, nm_e (br_f n0 (br_f n1 (cu_yb_n hi (br_t rfl (cu_yb_n hj (br_t rfl (br_f hne (cu_yc_n h4 (br_t rfl (cu_yc_n h5 (br_t rfl ⟨vt, nm_e ⟨vt, nm_e ⟨vt, nm_e ⟨vt, nm_e ⟨vt, nm_e ⟨rfl, cu_rel (cu_WF_tie W hi hj hij h4 h5) hc⟩⟩⟩⟩⟩⟩)))))))))))⟩⟩⟩⟩⟩
theorem i_vc_cut {k : Nat} {u : SX} {v : SY} (I : i_Rel k u v) (hk : k + 6 ≤ 3072) (v1 : Int32) : wpX_cut (fun r u' => wpY_cut (fun r' v' => r' = r ∧ i_Rel (k + 6) u' v') v v1) u v1 := by
  obtain ⟨qe, cz, co, th, tI, tJ, tU, tV, rm, rf, qu, cs, rfl, rfl, W, hc⟩ := I
  unfold wpX_cut wpY_cut
  dsimp only
  by_cases n0 : v1 < 0
  · exact br_t n0 (br_t n0 ⟨rfl, cu_rel W hc⟩)
  refine br_f n0 ?_
  by_cases n1 : v1 ≤ 15
  · refine br_t n1 ?_
    rcases cu_td v1 with h1 | ⟨t, ht, rfl⟩
    · rcases h1 with h1 | h1
      · exact absurd h1 n0
      · exact absurd h1 (Int32.not_lt.mpr n1)
    have vt : vp_in (nI t) 16 := vp_in_nI ht (by decide)
    have ct : (nI t).toNatClampNeg = t := nI_clamp (by omega)
    unfold wX_cut_26
    rw [ct]
    refine ⟨vt, br_c (fun z => ⟨vt, nm_e (br_f n0 (br_t n1 ⟨vt, nm_e ⟨vt, nm_e (br_t z ⟨rfl, cu_rel (cu_WF_cut W) hc⟩)⟩⟩))⟩) (fun z => ⟨vt, nm_e (br_f n0 (br_t n1 ⟨vt, nm_e ⟨vt, nm_e (br_f z ⟨rfl, cu_rel (cu_WF_cut W) hc⟩)⟩⟩))⟩)⟩
  · exact br_f n1 (br_f n0 (br_f n1 ⟨rfl, cu_rel W hc⟩))
theorem i_vc_least {k : Nat} {u : SX} {v : SY} (I : i_Rel k u v) (hk : k + 6 ≤ 3072) : wpX_least (fun r u' => wpY_least (fun r' => r' = r ∧ i_Rel (k + 6) u' v) v) u := by
  obtain ⟨qe, cz, co, th, tI, tJ, tU, tV, rm, rf, qu, cs, rfl, rfl, W, hc⟩ := I
  refine cu_xleast W (fun t qe rm rf qu M => cu_yleast W hc (fun m hm => ⟨?_, cu_rel W hc⟩))
  exact Int32.toInt_inj.mp (cu_XY W (fun S l _ _ _ => Iff.rfl) M hm)
theorem i_vc_lower {k : Nat} {u : SX} {v : SY} (I : i_Rel k u v) (hk : k + 6 ≤ 3072) : wpX_lower (fun r u' => wpY_lower (fun r' => r' = r ∧ i_Rel (k + 6) u' v) v) u := by
  obtain ⟨qe, cz, co, th, tI, tJ, tU, tV, rm, rf, qu, cs, rfl, rfl, W, hc⟩ := I
  refine cu_xlower W (fun r t qe rm rf qu M hr => cu_ylower W hc (fun r' m hm hr' => ⟨?_, cu_rel W hc⟩))
  have e : m.toInt = t.toInt := cu_XY W (fun S l _ _ _ => Iff.rfl) M hm
  refine b_ext (fun i hi => Bool.eq_iff_iff.mpr ?_)
  rw [hr i hi, hr' i hi, e, cu_lo_eq W]
theorem i_vc_upper {k : Nat} {u : SX} {v : SY} (I : i_Rel k u v) (hk : k + 6 ≤ 3072) : wpX_upper (fun r u' => wpY_upper (fun r' => r' = r ∧ i_Rel (k + 6) u' v) v) u := by
  obtain ⟨qe, cz, co, th, tI, tJ, tU, tV, rm, rf, qu, cs, rfl, rfl, W, hc⟩ := I
  refine cu_xupper W (fun r t qe rm rf qu M hr => cu_yupper W hc (fun r' m hm hr' => ⟨?_, cu_rel W hc⟩))
  have e : m.toInt = t.toInt := cu_XY W (fun S l _ _ _ => Iff.rfl) M hm
  refine b_ext (fun i hi => Bool.eq_iff_iff.mpr ?_)
  rw [hr i hi, hr' i hi, e, cu_up_eq W]
theorem i_vc_with {k : Nat} {u : SX} {v : SY} (I : i_Rel k u v) (hk : k + 6 ≤ 3072) (v1 : Int32) (v2 : Int32) : wpX_with (fun r u' => wpY_with (fun r' => r' = r ∧ i_Rel (k + 6) u' v) v v1 v2) u v1 v2 := by
  obtain ⟨qe, cz, co, th, tI, tJ, tU, tV, rm, rf, qu, cs, rfl, rfl, W, hc⟩ := I
  rcases cu_pd v1 with h1 | ⟨p, hp, rfl⟩
  · unfold wpX_with wpY_with
    exact cu_ip_n h1 (br_t rfl (cu_yb_y h1 (br_f (by decide) ⟨rfl, cu_rel W hc⟩)))
  · refine cu_xwith hp W (fun t qe rm rf qu M => ?_)
    unfold wpY_with
    refine cu_yb_n hp (br_t rfl ⟨513, cu_y15 hp W hc (fun m hm => ⟨?_, cu_rel W hc⟩) 513 0 1000000 (by omega) (by omega) cu_YP_0⟩)
    refine Int32.toInt_inj.mp (cu_XY W (fun S l _ _ hl => ?_) M hm)
    rw [hl p hp]
    cases S p <;> cases bt v2 0 <;> decide
theorem i_vc_apart {k : Nat} {u : SX} {v : SY} (I : i_Rel k u v) (hk : k + 6 ≤ 3072) (v1 : Int32) (v2 : Int32) : wpX_apart (fun r u' => wpY_apart (fun r' => r' = r ∧ i_Rel (k + 6) u' v) v v1 v2) u v1 v2 := by
  obtain ⟨qe, cz, co, th, tI, tJ, tU, tV, rm, rf, qu, cs, rfl, rfl, W, hc⟩ := I
  rcases cu_pd v1 with h1 | ⟨p, hp, rfl⟩
  · unfold wpX_apart wpY_apart
    exact cu_ip_n h1 (br_t rfl (cu_yb_y h1 (br_f (by decide) ⟨rfl, cu_rel W hc⟩)))
  · rcases cu_pd v2 with h2 | ⟨q, hq, rfl⟩
    · unfold wpX_apart wpY_apart
      exact cu_ip_y hp (br_f (by decide) (cu_ip_n h2 (br_t rfl (cu_yb_n hp (br_t rfl (cu_yb_y h2 (br_f (by decide) ⟨rfl, cu_rel W hc⟩)))))))
    · by_cases hne : p = q
      · subst hne
        unfold wpX_apart wpY_apart
        exact cu_ip_y hp (br_f (by decide) (cu_ip_y hp (br_f (by decide) (br_t rfl (cu_yb_n hp (br_t rfl (cu_yb_n hp (br_t rfl (br_t rfl ⟨rfl, cu_rel W hc⟩)))))))))
      · have hpq : ¬ nI p = nI q := fun z => hne ((nI_eq (by omega) (by omega)).mp z)
        refine cu_xapart hp hq hne W (fun t qe rm rf qu M => ?_)
        unfold wpY_apart
        refine cu_yb_n hp (br_t rfl (cu_yb_n hq (br_t rfl (br_f hpq ⟨513, cu_y27 hp hq hne W hc (fun m hm => ⟨?_, cu_rel W hc⟩) 513 0 1000000 (by omega) (by omega) cu_YP_0⟩))))
        refine Int32.toInt_inj.mp (cu_XY W (fun S l _ _ hl => ?_) M hm)
        rw [hl p hp, hl q hq]
        cases S p <;> cases S q <;> decide
theorem i_vc_energy {k : Nat} {u : SX} {v : SY} (I : i_Rel k u v) (hk : k + 6 ≤ 3072) (v1 : Int32) : wpX_energy (fun r => wpY_energy (fun r' => r' = r ∧ i_Rel (k + 6) u v) v v1) u v1 := by
  obtain ⟨qe, cz, co, th, tI, tJ, tU, tV, rm, rf, qu, cs, rfl, rfl, W, hc⟩ := I
  refine cu_xen W (fun e he => cu_yen W hc (fun e' he' => ⟨?_, cu_rel W hc⟩))
  exact Int32.toInt_inj.mp (by rw [he, he'])
end
