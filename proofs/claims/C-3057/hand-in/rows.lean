section
theorem pk_us {f : Nat → Int32} {k : Nat} {x : Int32} : upd f k x k = x := if_pos rfl
theorem pk_un {f : Nat → Int32} {k j : Nat} {x : Int32} (h : j ≠ k) : upd f k x j = f j := if_neg h
theorem pk_sub {a b : Nat} (h : b ≤ a) : nI a - nI b = nI (a - b) := by
  obtain ⟨c, rfl⟩ : ∃ c, a = c + b := ⟨a - b, by omega⟩
  rw [← nI_add, Int32.add_sub_cancel, Nat.add_sub_cancel]
theorem pk_mul (a b : Nat) : nI a * nI b = nI (a * b) := (Int32.ofNat_mul a b).symm
theorem pk_sub_toInt {a b : Nat} (ha : a < 2 ^ 30) (hb : b < 2 ^ 30) : (nI a - nI b).toInt = (a : Int) - b := by
  rw [Int32.toInt_sub, nI_toInt (by omega), nI_toInt (by omega)]
  exact Int.bmod_eq_of_le (by omega) (by omega)
theorem pk_sneg {a b : Nat} (hb : b < 2 ^ 30) (h : a < b) : nI a - nI b < 0 := by
  rw [Int32.lt_iff_toInt_lt, pk_sub_toInt (by omega) hb, show (0 : Int32).toInt = 0 from by decide]
  omega
theorem pk_ix (x : Int32) {n : Nat} (hn : n < 2 ^ 31) : x < 0 ∨ nI n ≤ x ∨ ∃ j : Nat, j < n ∧ x = nI j := by
  by_cases h : x < 0
  · exact Or.inl h
  · obtain ⟨j, hj, rfl⟩ := nI_of h
    by_cases h2 : j < n
    · exact Or.inr (Or.inr ⟨j, h2, rfl⟩)
    · exact Or.inr (Or.inl (nI_le (by omega) hj))
theorem pk_le {x y : Int32} {A B : Prop} (a b : Nat) (f : a ≤ b → A) (g : b < a → B) (hx : x = nI a := by rfl) (hy : y = nI b := by rfl) (ha : a < 2 ^ 31 := by omega) (hb : b < 2 ^ 31 := by omega) : (x ≤ y → A) ∧ (¬ x ≤ y → B) := by
  subst hx hy
  rw [nI_leI ha hb]
  exact ⟨f, fun z => g (by omega)⟩
theorem pk_lt {x y : Int32} {A B : Prop} (a b : Nat) (f : a < b → A) (g : b ≤ a → B) (hx : x = nI a := by rfl) (hy : y = nI b := by rfl) (ha : a < 2 ^ 31 := by omega) (hb : b < 2 ^ 31 := by omega) : (x < y → A) ∧ (¬ x < y → B) := by
  subst hx hy
  rw [nI_ltI ha hb]
  exact ⟨f, fun z => g (by omega)⟩
theorem pk_eq {x y : Int32} {A B : Prop} (a b : Nat) (f : a = b → A) (g : a ≠ b → B) (hx : x = nI a := by rfl) (hy : y = nI b := by rfl) (ha : a < 2 ^ 31 := by omega) (hb : b < 2 ^ 31 := by omega) : (x = y → A) ∧ (¬ x = y → B) := by
  subst hx hy
  rw [nI_eq ha hb]
  exact ⟨f, g⟩
theorem pk_in {x : Int32} (n N : Nat) (h : n < N) (hx : x = nI n := by rfl) (hN : N < 2 ^ 31 := by omega) : vp_in x N := by
  subst hx
  exact vp_in_nI h hN
theorem pk_cl {x : Int32} (n : Nat) (hx : x = nI n := by rfl) (h : n < 2 ^ 31 := by omega) : x.toNatClampNeg = n := by
  subst hx
  exact nI_clamp h
theorem pk_tn {n : Nat} (h : n < 2 ^ 32) : (nI n).toBitVec.toNat = n := Nat.mod_eq_of_lt h
theorem pk_and (x : Int32) {m : Int32} (k : Nat) (hm : m.toBitVec.toNat = 2 ^ k - 1) : x &&& m = nI (x.toBitVec.toNat % 2 ^ k) := by
  apply Int32.toBitVec_inj.mp
  apply BitVec.eq_of_toNat_eq
  rw [Int32.toBitVec_and, BitVec.toNat_and, hm, Nat.and_two_pow_sub_one_eq_mod]
  show _ = (BitVec.ofNat 32 _).toNat
  rw [BitVec.toNat_ofNat]
  exact (Nat.mod_eq_of_lt (Nat.lt_of_le_of_lt (Nat.mod_le _ _) x.toBitVec.isLt)).symm
theorem pk_andN {n : Nat} (h : n < 2 ^ 32) {m : Int32} (k : Nat) (hm : m.toBitVec.toNat = 2 ^ k - 1) : nI n &&& m = nI (n % 2 ^ k) := by
  rw [pk_and _ k hm, pk_tn h]
theorem pk_andE (x : Int32) {m : Int32} (k : Nat) (hm : m.toBitVec.toNat = 2 ^ k - 1) : ∃ j : Nat, j < 2 ^ k ∧ x &&& m = nI j := ⟨_, Nat.mod_lt _ (Nat.two_pow_pos k), pk_and x k hm⟩
def bt (x : Int32) (i : Nat) : Bool := x.toBitVec.getLsbD i
theorem b_ext {x y : Int32} (h : ∀ i, i < 32 → bt x i = bt y i) : x = y := Int32.toBitVec_inj.mp (BitVec.eq_of_getLsbD_eq (fun i hi => h i hi))
theorem b_or (x y : Int32) (i : Nat) : bt (x ||| y) i = (bt x i || bt y i) := by unfold bt; rw [Int32.toBitVec_or, BitVec.getLsbD_or]
theorem b_and (x y : Int32) (i : Nat) : bt (x &&& y) i = (bt x i && bt y i) := by unfold bt; rw [Int32.toBitVec_and, BitVec.getLsbD_and]
theorem b_big {x : Int32} {i : Nat} (h : 32 ≤ i) : bt x i = false := BitVec.getLsbD_of_ge _ _ h
theorem b_0 (i : Nat) : bt 0 i = false := BitVec.getLsbD_zero
theorem s_l : ∀ n, n < 32 → ((nI n &&& 31).toBitVec.smod 32).toNat = n := by decide +kernel
theorem b_shl (n : Nat) (hn : n < 32) (x : Int32) {i : Nat} (hi : i < 32) : bt (x <<< (nI n &&& 31)) i = (decide (n ≤ i) && bt x (i - n)) := by
  unfold bt
  rw [Int32.toBitVec_shiftLeft]
  show (x.toBitVec <<< ((nI n &&& 31).toBitVec.smod 32).toNat).getLsbD i = _
  rw [s_l n hn, BitVec.getLsbD_shiftLeft]
  rcases Nat.lt_or_ge i n with h | h
  · simp [h, Nat.not_le.mpr h]
  · simp [hi, h, Nat.not_lt.mpr h]
theorem b_sshr (n : Nat) (hn : n < 32) (x : Int32) {i : Nat} (hi : i < 32) : bt (x >>> (nI n &&& 31)) i = if n + i < 32 then bt x (n + i) else bt x 31 := by
  unfold bt
  rw [Int32.toBitVec_shiftRight]
  show (x.toBitVec.sshiftRight ((nI n &&& 31).toBitVec.smod 32).toNat).getLsbD i = _
  rw [s_l n hn, BitVec.getLsbD_sshiftRight, BitVec.msb_eq_getLsbD_last]
  simp [hi]
end
section
/-! the body as plain functions: array and raw shift of a part, what is read, what meets -/
def ll_a (x : Int32) (p : Nat) : Nat := ((x >>> ((2 * nI p) &&& 31)) &&& 3).toNatClampNeg
def ll_h (x : Int32) (p : Nat) : Nat := ((x >>> ((4 * nI p) &&& 31)) &&& 15).toNatClampNeg
theorem ll_a_e (x : Int32) (p : Nat) : (x >>> ((2 * nI p) &&& 31)) &&& 3 = nI (ll_a x p) := by
  obtain ⟨j, hj, e⟩ := pk_andE (x >>> ((2 * nI p) &&& 31)) (m := 3) 2 (by decide)
  have hj' : j < 4 := hj
  unfold ll_a
  rw [e, nI_clamp (by omega)]
theorem ll_h_e (x : Int32) (p : Nat) : (x >>> ((4 * nI p) &&& 31)) &&& 15 = nI (ll_h x p) := by
  obtain ⟨j, hj, e⟩ := pk_andE (x >>> ((4 * nI p) &&& 31)) (m := 15) 4 (by decide)
  have hj' : j < 16 := hj
  unfold ll_h
  rw [e, nI_clamp (by omega)]
theorem ll_a_lt (x : Int32) (p : Nat) : ll_a x p < 4 := by
  obtain ⟨j, hj, e⟩ := pk_andE (x >>> ((2 * nI p) &&& 31)) (m := 3) 2 (by decide)
  have hj' : j < 4 := hj
  unfold ll_a
  rw [e, nI_clamp (by omega)]
  exact hj'
theorem ll_h_lt (x : Int32) (p : Nat) : ll_h x p < 16 := by
  obtain ⟨j, hj, e⟩ := pk_andE (x >>> ((4 * nI p) &&& 31)) (m := 15) 4 (by decide)
  have hj' : j < 16 := hj
  unfold ll_h
  rw [e, nI_clamp (by omega)]
  exact hj'
def ll_rd (o : Int32) (p : Nat) : Bool := if p = 1 then !(decide (o = 5)) else !(decide (3 < o))
def ll_mt (ar sh : Nat → Int32) (a p b r d : Nat) : Bool := decide (ll_a (ar a) p = ll_a (ar b) r) && decide (ll_h (sh a) p = ll_h (sh b) r + d)
def ll_fd (op ar sh : Nat → Int32) (a b d : Nat) : Bool := (ll_rd (op b) 1 && ll_mt ar sh a 0 b 1 d) || (ll_rd (op b) 2 && ll_mt ar sh a 0 b 2 d)
def ll_sp (op ar sh : Nat → Int32) (a b d : Nat) : Bool := (ll_rd (op a) 1 && ll_mt ar sh a 1 b 0 d) || (ll_rd (op a) 2 && ll_mt ar sh a 2 b 0 d)
def ll_cf (op ar sh : Nat → Int32) (a b d : Nat) : Bool := ll_mt ar sh a 0 b 0 d || (ll_fd op ar sh a b d || ll_sp op ar sh a b d)
def ll_pr (op ar sh : Nat → Int32) (a b d : Nat) : Bool := if d = 0 ∧ b ≤ a then false else ll_cf op ar sh a b d
def ll_pe (op ar sh : Nat → Int32) (a b : Nat) : Nat → Nat → Bool
  | 0, _ => false
  | k + 1, d => ll_pr op ar sh a b d || ll_pe op ar sh a b k (d + 1)
def ll_e (op ar sh : Nat → Int32) (a b : Nat) : Bool := ll_pe op ar sh a b 9 0
theorem ll_pe_f {op ar sh : Nat → Int32} {a b : Nat} : ∀ (k d : Nat), ll_pe op ar sh a b k d = false → ∀ e, d ≤ e → e < d + k → ll_pr op ar sh a b e = false := by
  intro k
  induction k with
  | zero => intro d _ e h1 h2; omega
  | succ k ih =>
    intro d h e h1 h2
    rw [ll_pe, Bool.or_eq_false_iff] at h
    by_cases hd : e = d
    · rw [hd]; exact h.1
    · exact ih (d + 1) h.2 e (by omega) (by omega)
/-- arrays and shifts are good -/
def ll_B (n : Nat) (ar sh : Nat → Int32) : Prop := ∀ q, q < n → ∀ p, p < 3 → ll_a (ar q) p ≤ 2 ∧ ll_h (sh q) p ≤ 8
theorem ll_mt_far {ar sh : Nat → Int32} {n a p b r d : Nat} (hB : ll_B n ar sh) (ha : a < n) (hp : p < 3) (hd : 9 ≤ d) : ll_mt ar sh a p b r d = false := by
  have h := (hB a ha p hp).2
  unfold ll_mt
  rw [Bool.and_eq_false_iff]
  right
  exact decide_eq_false (by omega)
theorem ll_e_f {op ar sh : Nat → Int32} {n a b : Nat} (hB : ll_B n ar sh) (ha : a < n) (h : ll_e op ar sh a b = false) (d : Nat) : ll_pr op ar sh a b d = false := by
  by_cases hd : d < 9
  · exact ll_pe_f 9 0 h d (by omega) (by omega)
  · unfold ll_pr
    rw [if_neg (by omega)]
    unfold ll_cf ll_fd ll_sp
    rw [ll_mt_far hB ha (by omega) (by omega), ll_mt_far hB ha (by omega) (by omega), ll_mt_far hB ha (by omega) (by omega), ll_mt_far hB ha (by omega) (by omega), ll_mt_far hB ha (by omega) (by omega)]
    simp only [Bool.and_false, Bool.or_false]
/-! what one statement does to the cells -/
def ll_ad (ar sh : Nat → Int32) (q p i : Nat) : Nat := ll_a (ar q) p * 32 + i + ll_h (sh q) p - 4
def ll_vl (o c x y : Int32) : Int32 := if o = 0 then x + y else if o = 1 then x - y else if o = 2 then x * y else if o = 3 then (if y ≤ x then y else x) else if o = 4 then x + c else if o = 5 then c else x * c
def ll_vq (op ar sh ct : Nat → Int32) (q i : Nat) (c : Nat → Int32) : Int32 := ll_vl (op q) (ct q) (c (ll_ad ar sh q 1 i)) (c (ll_ad ar sh q 2 i))
def ll_ex (op ar sh ct : Nat → Int32) (q i : Nat) (c : Nat → Int32) : Nat → Int32 := upd c (ll_ad ar sh q 0 i) (ll_vq op ar sh ct q i c)
theorem ll_vl_5 (c x y : Int32) : ll_vl 5 c x y = c := by
  unfold ll_vl
  rw [if_neg (by decide), if_neg (by decide), if_neg (by decide), if_neg (by decide), if_neg (by decide), if_pos rfl]
theorem ll_vl_1 {o c x x' y : Int32} (h : ll_rd o 1 = false) : ll_vl o c x y = ll_vl o c x' y := by
  have e : o = 5 := by
    unfold ll_rd at h
    rw [if_pos rfl] at h
    simpa using h
  subst e
  rw [ll_vl_5, ll_vl_5]
theorem ll_vl_2 {o c x y y' : Int32} (h : ll_rd o 2 = false) : ll_vl o c x y = ll_vl o c x y' := by
  have e : 3 < o := by
    unfold ll_rd at h
    rw [if_neg (by omega)] at h
    simpa using h
  have h0 : o ≠ 0 := fun z => absurd (z ▸ e) (by decide)
  have h1 : o ≠ 1 := fun z => absurd (z ▸ e) (by decide)
  have h2 : o ≠ 2 := fun z => absurd (z ▸ e) (by decide)
  have h3 : o ≠ 3 := fun z => absurd (z ▸ e) (by decide)
  unfold ll_vl
  rw [if_neg h0, if_neg h1, if_neg h2, if_neg h3, if_neg h0, if_neg h1, if_neg h2, if_neg h3]
theorem ll_vq_upd {op ar sh ct : Nat → Int32} {q i : Nat} {c : Nat → Int32} {t : Nat} {v : Int32} (h1 : ll_rd (op q) 1 = true → ll_ad ar sh q 1 i ≠ t) (h2 : ll_rd (op q) 2 = true → ll_ad ar sh q 2 i ≠ t) : ll_vq op ar sh ct q i (upd c t v) = ll_vq op ar sh ct q i c := by
  unfold ll_vq
  have e1 : ∀ y, ll_vl (op q) (ct q) (upd c t v (ll_ad ar sh q 1 i)) y = ll_vl (op q) (ct q) (c (ll_ad ar sh q 1 i)) y := by
    intro y
    by_cases hr : ll_rd (op q) 1 = true
    · rw [pk_un (h1 hr)]
    · exact ll_vl_1 (Bool.eq_false_iff.mpr hr)
  have e2 : ∀ x, ll_vl (op q) (ct q) x (upd c t v (ll_ad ar sh q 2 i)) = ll_vl (op q) (ct q) x (c (ll_ad ar sh q 2 i)) := by
    intro x
    by_cases hr : ll_rd (op q) 2 = true
    · rw [pk_un (h2 hr)]
    · exact ll_vl_2 (Bool.eq_false_iff.mpr hr)
  rw [e1, e2]
theorem ll_upd_comm {c : Nat → Int32} {s t : Nat} {v w : Int32} (h : s ≠ t) : upd (upd c s v) t w = upd (upd c t w) s v := by
  funext j
  unfold upd
  by_cases h1 : j = t
  · rw [if_pos h1, if_neg (by omega), if_pos h1]
  · rw [if_neg h1]
    by_cases h2 : j = s
    · rw [if_pos h2, if_pos h2]
    · rw [if_neg h2, if_neg h2, if_neg h1]
theorem ll_com {op ar sh ct : Nat → Int32} {a i b j : Nat} {c : Nat → Int32} (h0 : ll_ad ar sh a 0 i ≠ ll_ad ar sh b 0 j)
    (h1 : ll_rd (op b) 1 = true → ll_ad ar sh b 1 j ≠ ll_ad ar sh a 0 i) (h2 : ll_rd (op b) 2 = true → ll_ad ar sh b 2 j ≠ ll_ad ar sh a 0 i)
    (h3 : ll_rd (op a) 1 = true → ll_ad ar sh a 1 i ≠ ll_ad ar sh b 0 j) (h4 : ll_rd (op a) 2 = true → ll_ad ar sh a 2 i ≠ ll_ad ar sh b 0 j) :
    ll_ex op ar sh ct b j (ll_ex op ar sh ct a i c) = ll_ex op ar sh ct a i (ll_ex op ar sh ct b j c) := by
  unfold ll_ex
  rw [ll_vq_upd h1 h2, ll_vq_upd h3 h4]
  exact ll_upd_comm h0
/-- every index of lo .. hi, moved by every shift, lies within -/
def ll_In (n : Nat) (ar sh : Nat → Int32) (lo hi : Nat) : Prop := ∀ q, q < n → ∀ p, p < 3 → ll_a (ar q) p ≤ 2 ∧ ll_h (sh q) p ≤ 8 ∧ 4 ≤ lo + ll_h (sh q) p ∧ hi + ll_h (sh q) p < 36
theorem ll_ad_mt {ar sh : Nat → Int32} {n lo hi a p b r i j : Nat} (hI : ll_In n ar sh lo hi) (ha : a < n) (hp : p < 3) (hb : b < n) (hr : r < 3) (h1 : lo ≤ i) (h2 : i ≤ j) (h3 : j ≤ hi) (e : ll_ad ar sh a p i = ll_ad ar sh b r j) : ll_mt ar sh a p b r (j - i) = true := by
  have A := hI a ha p hp
  have B := hI b hb r hr
  unfold ll_ad at e
  unfold ll_mt
  rw [Bool.and_eq_true, decide_eq_true_eq, decide_eq_true_eq]
  omega
theorem ll_pr_com {op ar sh ct : Nat → Int32} {n lo hi a b i j : Nat} {c : Nat → Int32} (hI : ll_In n ar sh lo hi) (ha : a < n) (hb : b < n) (h1 : lo ≤ i) (h2 : i < j ∨ i = j ∧ a < b) (h3 : j ≤ hi) (h : ll_pr op ar sh a b (j - i) = false) :
    ll_ex op ar sh ct b j (ll_ex op ar sh ct a i c) = ll_ex op ar sh ct a i (ll_ex op ar sh ct b j c) := by
  have hij : i ≤ j := by omega
  unfold ll_pr at h
  rw [if_neg (by omega)] at h
  unfold ll_cf ll_fd ll_sp at h
  simp only [Bool.or_eq_false_iff, Bool.and_eq_false_iff] at h
  obtain ⟨m0, ⟨m1, m2⟩, m3, m4⟩ := h
  have no : ∀ {x : Bool}, x = true → x = false → False := by intro x h1 h2; rw [h1] at h2; exact absurd h2 (by decide)
  refine ll_com ?_ ?_ ?_ ?_ ?_
  · intro e
    exact no (ll_ad_mt hI ha (by omega) hb (by omega) h1 hij h3 e) m0
  · intro hr e
    exact m1.elim (no hr) (no (ll_ad_mt hI ha (by omega) hb (by omega) h1 hij h3 e.symm))
  · intro hr e
    exact m2.elim (no hr) (no (ll_ad_mt hI ha (by omega) hb (by omega) h1 hij h3 e.symm))
  · intro hr e
    exact m3.elim (no hr) (no (ll_ad_mt hI ha (by omega) hb (by omega) h1 hij h3 e))
  · intro hr e
    exact m4.elim (no hr) (no (ll_ad_mt hI ha (by omega) hb (by omega) h1 hij h3 e))
end
section
/-! runs of statements: pairs (statement, index), in order -/
def ll_xs (f : Nat → Nat → (Nat → Int32) → (Nat → Int32)) : List (Nat × Nat) → (Nat → Int32) → (Nat → Int32)
  | [], c => c
  | x :: l, c => ll_xs f l (f x.1 x.2 c)
section
variable {f : Nat → Nat → (Nat → Int32) → (Nat → Int32)}
theorem ll_xs_app : ∀ (l m : List (Nat × Nat)) (c : Nat → Int32), ll_xs f (l ++ m) c = ll_xs f m (ll_xs f l c) := by
  intro l
  induction l with
  | nil => intro m c; rfl
  | cons x l ih => intro m c; exact ih m _
theorem ll_xs_past (x : Nat × Nat) : ∀ (l : List (Nat × Nat)), (∀ y, y ∈ l → ∀ c, f y.1 y.2 (f x.1 x.2 c) = f x.1 x.2 (f y.1 y.2 c)) →
    ∀ c, ll_xs f l (f x.1 x.2 c) = f x.1 x.2 (ll_xs f l c) := by
  intro l
  induction l with
  | nil => intro _ c; rfl
  | cons y l ih =>
    intro h c
    show ll_xs f l (f y.1 y.2 (f x.1 x.2 c)) = _
    rw [h y (List.mem_cons_self ..) c]
    exact ih (fun z hz => h z (List.mem_cons_of_mem _ hz)) _
theorem ll_xs_split (P : Nat × Nat → Bool) : ∀ (l : List (Nat × Nat)),
    List.Pairwise (fun x y => P x = false → P y = true → ∀ c, f y.1 y.2 (f x.1 x.2 c) = f x.1 x.2 (f y.1 y.2 c)) l →
    ∀ c, ll_xs f l c = ll_xs f (l.filter (fun x => !P x)) (ll_xs f (l.filter P) c) := by
  intro l
  induction l with
  | nil => intro _ c; rfl
  | cons x l ih =>
    intro h c
    rw [List.pairwise_cons] at h
    have hi := ih h.2
    by_cases hx : P x = true
    · rw [List.filter_cons_of_pos hx, List.filter_cons_of_neg (by rw [hx]; decide)]
      exact hi _
    · have hx' : P x = false := Bool.eq_false_iff.mpr hx
      rw [List.filter_cons_of_neg hx, List.filter_cons_of_pos (by rw [hx']; decide)]
      show ll_xs f l (f x.1 x.2 c) = ll_xs f _ (f x.1 x.2 (ll_xs f (l.filter P) c))
      rw [hi, ll_xs_past x (l.filter P) (fun y hy => h.1 y (List.mem_filter.mp hy).1 hx' (List.mem_filter.mp hy).2)]
end
/-- one round: those statements of q .. q + m - 1 that P holds of, at index i -/
def ll_row (P : Nat → Bool) (i : Nat) : Nat → Nat → List (Nat × Nat)
  | 0, _ => []
  | m + 1, q => if P q = true then (q, i) :: ll_row P i m (q + 1) else ll_row P i m (q + 1)
/-- k rounds from index i on -/
def ll_gr (P : Nat → Bool) (n : Nat) : Nat → Nat → List (Nat × Nat)
  | 0, _ => []
  | k + 1, i => ll_row P i n 0 ++ ll_gr P n k (i + 1)
theorem ll_row_mem {P : Nat → Bool} {i : Nat} {x : Nat × Nat} : ∀ (m q : Nat), x ∈ ll_row P i m q → x.2 = i ∧ q ≤ x.1 ∧ x.1 < q + m ∧ P x.1 = true := by
  intro m
  induction m with
  | zero => intro q h; exact absurd h (List.not_mem_nil)
  | succ m ih =>
    intro q h
    rw [ll_row] at h
    by_cases hq : P q = true
    · rw [if_pos hq, List.mem_cons] at h
      rcases h with h | h
      · subst h
        exact ⟨rfl, Nat.le_refl _, by show q < q + (m + 1); omega, hq⟩
      · have := ih (q + 1) h
        exact ⟨this.1, by omega, by omega, this.2.2.2⟩
    · rw [if_neg hq] at h
      have := ih (q + 1) h
      exact ⟨this.1, by omega, by omega, this.2.2.2⟩
theorem ll_row_pw {P : Nat → Bool} {i : Nat} : ∀ (m q : Nat), List.Pairwise (fun x y : Nat × Nat => x.2 < y.2 ∨ x.2 = y.2 ∧ x.1 < y.1) (ll_row P i m q) := by
  intro m
  induction m with
  | zero => intro q; exact List.Pairwise.nil
  | succ m ih =>
    intro q
    rw [ll_row]
    by_cases hq : P q = true
    · rw [if_pos hq, List.pairwise_cons]
      refine ⟨fun y hy => ?_, ih _⟩
      have := ll_row_mem m (q + 1) hy
      right
      exact ⟨this.1.symm, by show q < y.1; omega⟩
    · rw [if_neg hq]
      exact ih _
theorem ll_gr_mem {P : Nat → Bool} {n : Nat} {x : Nat × Nat} : ∀ (k i : Nat), x ∈ ll_gr P n k i → i ≤ x.2 ∧ x.2 < i + k ∧ x.1 < n ∧ P x.1 = true := by
  intro k
  induction k with
  | zero => intro i h; exact absurd h (List.not_mem_nil)
  | succ k ih =>
    intro i h
    rw [ll_gr, List.mem_append] at h
    rcases h with h | h
    · have := ll_row_mem n 0 h
      exact ⟨by omega, by omega, by omega, this.2.2.2⟩
    · have := ih (i + 1) h
      exact ⟨by omega, by omega, this.2.2.1, this.2.2.2⟩
theorem ll_gr_pw {P : Nat → Bool} {n : Nat} : ∀ (k i : Nat), List.Pairwise (fun x y : Nat × Nat => x.2 < y.2 ∨ x.2 = y.2 ∧ x.1 < y.1) (ll_gr P n k i) := by
  intro k
  induction k with
  | zero => intro i; exact List.Pairwise.nil
  | succ k ih =>
    intro i
    rw [ll_gr, List.pairwise_append]
    refine ⟨ll_row_pw n 0, ih _, fun x hx y hy => ?_⟩
    have h1 := ll_row_mem n 0 hx
    have h2 := ll_gr_mem k (i + 1) hy
    left
    omega
theorem ll_row_filter {P Q : Nat → Bool} {i : Nat} : ∀ (m q : Nat), (ll_row P i m q).filter (fun x => Q x.1) = ll_row (fun t => P t && Q t) i m q := by
  intro m
  induction m with
  | zero => intro q; rfl
  | succ m ih =>
    intro q
    rw [ll_row, ll_row]
    by_cases hq : P q = true
    · rw [if_pos hq]
      by_cases hr : Q q = true
      · rw [List.filter_cons_of_pos (p := fun x : Nat × Nat => Q x.1) hr, if_pos (by rw [hq, hr]; rfl), ih]
      · rw [List.filter_cons_of_neg (p := fun x : Nat × Nat => Q x.1) hr, if_neg (by rw [hq, Bool.eq_false_iff.mpr hr]; decide), ih]
    · rw [if_neg hq, if_neg (by rw [Bool.eq_false_iff.mpr hq, Bool.false_and]; decide), ih]
theorem ll_gr_filter {P Q : Nat → Bool} {n : Nat} : ∀ (k i : Nat), (ll_gr P n k i).filter (fun x => Q x.1) = ll_gr (fun t => P t && Q t) n k i := by
  intro k
  induction k with
  | zero => intro i; rfl
  | succ k ih =>
    intro i
    rw [ll_gr, ll_gr, List.filter_append, ll_row_filter, ih]
theorem ll_row_congr {P Q : Nat → Bool} {i n : Nat} (h : ∀ t, t < n → P t = Q t) : ∀ (m q : Nat), q + m ≤ n → ll_row P i m q = ll_row Q i m q := by
  intro m
  induction m with
  | zero => intro q _; rfl
  | succ m ih =>
    intro q hq
    rw [ll_row, ll_row, h q (by omega), ih (q + 1) (by omega)]
theorem ll_gr_congr {P Q : Nat → Bool} {n : Nat} (h : ∀ t, t < n → P t = Q t) : ∀ (k i : Nat), ll_gr P n k i = ll_gr Q n k i := by
  intro k
  induction k with
  | zero => intro i; rfl
  | succ k ih =>
    intro i
    rw [ll_gr, ll_gr, ll_row_congr h n 0 (by omega), ih]
theorem ll_row_none {P : Nat → Bool} {i n : Nat} (h : ∀ t, t < n → P t = false) : ∀ (m q : Nat), q + m ≤ n → ll_row P i m q = [] := by
  intro m
  induction m with
  | zero => intro q _; rfl
  | succ m ih =>
    intro q hq
    rw [ll_row, if_neg (by rw [h q (by omega)]; decide), ih (q + 1) (by omega)]
theorem ll_gr_none {P : Nat → Bool} {n : Nat} (h : ∀ t, t < n → P t = false) : ∀ (k i : Nat), ll_gr P n k i = [] := by
  intro k
  induction k with
  | zero => intro i; rfl
  | succ k ih =>
    intro i
    rw [ll_gr, ll_row_none h n 0 (by omega), ih]
    rfl
/-- a group that nothing behind it must precede may run first -/
theorem ll_step {op ar sh ct : Nat → Int32} {n lo hi : Nat} {P G : Nat → Bool} (hI : ll_In n ar sh lo hi)
    (hG : ∀ s, s < n → G s = true → P s = true)
    (h : ∀ r s, r < n → s < n → P r = true → G r = false → G s = true → ∀ d, ll_pr op ar sh r s d = false) (k i : Nat) (h1 : lo ≤ i) (h2 : i + k ≤ hi + 1) (c : Nat → Int32) :
    ll_xs (ll_ex op ar sh ct) (ll_gr P n k i) c = ll_xs (ll_ex op ar sh ct) (ll_gr (fun t => P t && !G t) n k i) (ll_xs (ll_ex op ar sh ct) (ll_gr G n k i) c) := by
  have hp : List.Pairwise (fun x y : Nat × Nat => (fun x : Nat × Nat => G x.1) x = false → (fun x : Nat × Nat => G x.1) y = true → ∀ c, ll_ex op ar sh ct y.1 y.2 (ll_ex op ar sh ct x.1 x.2 c) = ll_ex op ar sh ct x.1 x.2 (ll_ex op ar sh ct y.1 y.2 c)) (ll_gr P n k i) := by
    refine List.Pairwise.imp_of_mem ?_ (ll_gr_pw k i)
    intro x y hx hy hxy gx gy c
    have mx := ll_gr_mem k i hx
    have my := ll_gr_mem k i hy
    exact ll_pr_com hI mx.2.2.1 my.2.2.1 (by omega) hxy (by omega) (h x.1 y.1 mx.2.2.1 my.2.2.1 mx.2.2.2 gx gy _)
  rw [ll_xs_split (fun x : Nat × Nat => G x.1) _ hp c]
  rw [ll_gr_filter (P := P) (Q := fun t => !G t), ll_gr_filter (P := P) (Q := G)]
  rw [ll_gr_congr (P := fun t => P t && G t) (Q := G)]
  intro t ht
  show (P t && G t) = G t
  cases hg : G t with
  | true => rw [hG t ht hg]; rfl
  | false => exact Bool.and_false _
/-! one statement down a column; four at a time -/
def ll_co (g : Nat → (Nat → Int32) → (Nat → Int32)) : Nat → Nat → (Nat → Int32) → (Nat → Int32)
  | 0, _, c => c
  | k + 1, i, c => ll_co g k (i + 1) (g i c)
theorem ll_co_snoc {g : Nat → (Nat → Int32) → (Nat → Int32)} : ∀ (k i : Nat) (c : Nat → Int32), ll_co g (k + 1) i c = g (i + k) (ll_co g k i c) := by
  intro k
  induction k with
  | zero => intro i c; rfl
  | succ k ih =>
    intro i c
    show ll_co g (k + 1) (i + 1) (g i c) = _
    rw [ih (i + 1), show i + 1 + k = i + (k + 1) by omega]
    rfl
theorem ll_co_add {g : Nat → (Nat → Int32) → (Nat → Int32)} : ∀ (j k i : Nat) (c : Nat → Int32), ll_co g (j + k) i c = ll_co g k (i + j) (ll_co g j i c) := by
  intro j
  induction j with
  | zero => intro k i c; rw [Nat.zero_add]; rfl
  | succ j ih =>
    intro k i c
    rw [show j + 1 + k = (j + k) + 1 by omega]
    show ll_co g (j + k) (i + 1) (g i c) = _
    rw [ih, show i + 1 + j = i + (j + 1) by omega]
    rfl
theorem ll_row_one {f : Nat → Nat → (Nat → Int32) → (Nat → Int32)} {i s : Nat} : ∀ (m q : Nat) (c : Nat → Int32), (s < q ∨ q + m ≤ s → ll_xs f (ll_row (fun t => decide (t = s)) i m q) c = c) ∧ (q ≤ s → s < q + m → ll_xs f (ll_row (fun t => decide (t = s)) i m q) c = f s i c) := by
  intro m
  induction m with
  | zero => intro q c; exact ⟨fun _ => rfl, fun h1 h2 => by omega⟩
  | succ m ih =>
    intro q c
    rw [ll_row]
    by_cases hq : q = s
    · subst hq
      rw [if_pos (decide_eq_true rfl)]
      refine ⟨fun h => by omega, fun _ _ => ?_⟩
      exact (ih (q + 1) _).1 (by omega)
    · rw [if_neg (by rw [decide_eq_true_eq]; exact hq)]
      exact ⟨fun h => (ih (q + 1) c).1 (by omega), fun h1 h2 => (ih (q + 1) c).2 (by omega) (by omega)⟩
theorem ll_gr_one {f : Nat → Nat → (Nat → Int32) → (Nat → Int32)} {n s : Nat} (hs : s < n) : ∀ (k i : Nat) (c : Nat → Int32), ll_xs f (ll_gr (fun t => decide (t = s)) n k i) c = ll_co (f s) k i c := by
  intro k
  induction k with
  | zero => intro i c; rfl
  | succ k ih =>
    intro i c
    rw [ll_gr, ll_xs_app, (ll_row_one n 0 c).2 (by omega) (by omega), ih]
    rfl
/-- what is loaded ahead of the stores is what the plain loop would load -/
theorem ll_lane {op ar sh ct : Nat → Int32} {n lo hi s i m : Nat} (hI : ll_In n ar sh lo hi) (hs : s < n) (hf : ∀ d, 1 ≤ d → d < 4 → ll_fd op ar sh s s d = false) (h1 : lo ≤ i) (h2 : m ≤ hi) (c : Nat → Int32) :
    ∀ j, i + j ≤ m → m < i + 4 → ll_vq op ar sh ct s m (ll_co (ll_ex op ar sh ct s) j i c) = ll_vq op ar sh ct s m c := by
  intro j
  induction j with
  | zero => intro _ _; rfl
  | succ j ih =>
    intro hj hm
    rw [ll_co_snoc]
    unfold ll_ex
    have hd := hf (m - (i + j)) (by omega) (by omega)
    unfold ll_fd at hd
    simp only [Bool.or_eq_false_iff, Bool.and_eq_false_iff] at hd
    have no : ∀ {x : Bool}, x = true → x = false → False := by intro x h1 h2; rw [h1] at h2; exact absurd h2 (by decide)
    rw [ll_vq_upd ?_ ?_]
    · exact ih (by omega) hm
    · intro hr e
      exact hd.1.elim (no hr) (no (ll_ad_mt hI hs (by omega) hs (by omega) (by omega) (by omega) h2 e.symm))
    · intro hr e
      exact hd.2.elim (no hr) (no (ll_ad_mt hI hs (by omega) hs (by omega) (by omega) (by omega) h2 e.symm))
end
section
/-! bits -/
theorem ll_b1 (i : Nat) : bt 1 i = decide (i = 0) := by
  rcases Nat.lt_or_ge i 32 with h | h
  · exact (by decide +kernel : ∀ i, i < 32 → bt 1 i = decide (i = 0)) i h
  · rw [b_big h, decide_eq_false (by omega)]
theorem ll_b01 {x : Int32} {k : Nat} (hk : k < 32) : bt ((x >>> (nI k &&& 31)) &&& 1) 0 = bt x k := by
  rw [b_and, ll_b1, b_sshr k hk x (by omega), if_pos (by omega), decide_eq_true rfl, Bool.and_true]
  rfl
theorem ll_bit1 {x : Int32} {k : Nat} (hk : k < 32) : ((x >>> (nI k &&& 31)) &&& 1) = 1 ↔ bt x k = true := by
  constructor
  · intro h
    rw [← ll_b01 hk, h]
    decide
  · intro h
    apply b_ext
    intro i hi
    by_cases h0 : i = 0
    · subst h0
      rw [ll_b01 hk, h]
      decide
    · rw [b_and, ll_b1, decide_eq_false h0, Bool.and_false]
theorem ll_bit0 {x : Int32} {k : Nat} (hk : k < 32) : ((x >>> (nI k &&& 31)) &&& 1) = 0 ↔ bt x k = false := by
  constructor
  · intro h
    rw [← ll_b01 hk, h]
    decide
  · intro h
    apply b_ext
    intro i hi
    by_cases h0 : i = 0
    · subst h0
      rw [ll_b01 hk, h]
      decide
    · rw [b_and, ll_b1, decide_eq_false h0, Bool.and_false, b_0]
theorem ll_bsh {k : Nat} (hk : k < 32) (t : Nat) : bt ((1 : Int32) <<< (nI k &&& 31)) t = decide (t = k) := by
  rcases Nat.lt_or_ge t 32 with h | h
  · rw [b_shl k hk 1 h, ll_b1]
    by_cases e : t = k
    · rw [decide_eq_true (by omega), decide_eq_true (by omega), decide_eq_true e]
      rfl
    · rw [decide_eq_false e, Bool.and_eq_false_iff]
      by_cases h2 : k ≤ t
      · right; exact decide_eq_false (by omega)
      · left; exact decide_eq_false h2
  · rw [b_big h, decide_eq_false (by omega)]
theorem ll_ne0 {x : Int32} {t : Nat} (h : bt x t = true) : ¬ x = 0 := by
  intro e
  rw [e, b_0] at h
  exact absurd h (by decide)
theorem ll_small {x : Int32} (h : ∀ t, bt x t = true → t < 4) : ∃ m, m < 16 ∧ x = nI m := by
  have hx : x.toBitVec.toNat < 2 ^ 4 := by
    apply Nat.lt_pow_two_of_testBit
    intro i hi
    have : bt x i = false := by
      cases e : bt x i with
      | false => rfl
      | true => have := h i e; omega
    exact this
  refine ⟨x.toBitVec.toNat, hx, ?_⟩
  apply Int32.toBitVec_inj.mp
  show x.toBitVec = BitVec.ofNat 32 x.toBitVec.toNat
  simp
theorem ll_one_k : ∀ m : Fin 16, ∀ l : Fin 4, ∀ t : Fin 4, nI m.val ≠ 0 → (nI m.val &&& (nI m.val - 1)) = 0 → (∀ j : Fin 4, j.val < l.val → bt (nI m.val) j.val = false) → (l.val < 3 → bt (nI m.val) l.val = true) → bt (nI m.val) t.val = decide (t.val = l.val) := by decide +kernel
theorem ll_one {x : Int32} (h : ∀ t, bt x t = true → t < 4) (h0 : ¬ x = 0) (h1 : (x &&& (x - 1)) = 0) {l : Nat} (hl : l < 4) (h2 : ∀ j, j < l → bt x j = false) (h3 : l < 3 → bt x l = true) : ∀ t, t < 4 → bt x t = decide (t = l) := by
  obtain ⟨m, hm, rfl⟩ := ll_small h
  exact fun t ht => ll_one_k ⟨m, hm⟩ ⟨l, hl⟩ ⟨t, ht⟩ h0 h1 (fun j hj => h2 j.val hj) h3
/-! the closure -/
def ll_W (op ar sh : Nat → Int32) (n k : Nat) (bh : Nat → Int32) : Prop :=
  (∀ j, j < n → ∀ t, bt (bh j) t = true → t < n) ∧ (∀ j, j < n → bt (bh j) j = true) ∧
  (∀ j t, j < n → t < n → ll_e op ar sh j t = true → bt (bh j) t = true) ∧
  (∀ a m t, a < n → m < k → t < n → bt (bh a) m = true → bt (bh m) t = true → bt (bh a) t = true)
theorem ll_W0 {op ar sh bh : Nat → Int32} {n : Nat} (h : ∀ j, j < n → ∀ t, bt (bh j) t = (decide (t = j) || (decide (t < n) && ll_e op ar sh j t))) : ll_W op ar sh n 0 bh := by
  refine ⟨fun j hj t ht => ?_, fun j hj => ?_, fun j t hj ht he => ?_, fun a m t _ hm => absurd hm (Nat.not_lt_zero _)⟩
  · rw [h j hj t, Bool.or_eq_true, Bool.and_eq_true, decide_eq_true_eq, decide_eq_true_eq] at ht
    rcases ht with ht | ht
    · omega
    · exact ht.1
  · rw [h j hj j, decide_eq_true rfl]; rfl
  · rw [h j hj t, he, decide_eq_true ht, Bool.and_true, Bool.or_true]
theorem ll_W1 {op ar sh bh bh' : Nat → Int32} {n k : Nat} (hk : k < n) (w : ll_W op ar sh n k bh) (h : ∀ j, j < n → ∀ t, bt (bh' j) t = (bt (bh j) t || (bt (bh j) k && bt (bh k) t))) : ll_W op ar sh n (k + 1) bh' := by
  obtain ⟨w1, w2, w3, w4⟩ := w
  have hh : ∀ j, j < n → ∀ t, bt (bh' j) t = true ↔ (bt (bh j) t = true ∨ (bt (bh j) k = true ∧ bt (bh k) t = true)) := by
    intro j hj t
    rw [h j hj t, Bool.or_eq_true, Bool.and_eq_true]
  refine ⟨fun j hj t ht => ?_, fun j hj => ?_, fun j t hj ht he => ?_, fun a m t ha hm ht h1 h2 => ?_⟩
  · rcases (hh j hj t).mp ht with z | z
    · exact w1 j hj t z
    · exact w1 k hk t z.2
  · exact (hh j hj j).mpr (Or.inl (w2 j hj))
  · exact (hh j hj t).mpr (Or.inl (w3 j t hj ht he))
  · have hmn : m < n := by omega
    have g1 := (hh a ha m).mp h1
    have g2 := (hh m hmn t).mp h2
    rw [hh a ha t]
    by_cases e : m = k
    · subst e
      right
      constructor
      · rcases g1 with z | z
        · exact z
        · exact z.1
      · rcases g2 with z | z
        · exact z
        · exact z.2
    · have hmk : m < k := by omega
      rcases g1 with z1 | z1
      · rcases g2 with z2 | z2
        · left; exact w4 a m t ha hmk ht z1 z2
        · right; exact ⟨w4 a m k ha hmk hk z1 z2.1, z2.2⟩
      · rcases g2 with z2 | z2
        · right; exact ⟨z1.1, w4 k m t hk hmk ht z1.2 z2⟩
        · right; exact ⟨z1.1, z2.2⟩
/-! a first circle exists -/
theorem ll_min {n : Nat} {R : Nat → Nat → Prop} {U : Nat → Prop} (hr : ∀ a, a < n → R a a) (ht : ∀ a m t, a < n → m < n → t < n → R a m → R m t → R a t) :
    ∀ m, m ≤ n → (∃ s, s < m ∧ U s) → ∃ s, s < m ∧ U s ∧ ∀ t, t < m → U t → R t s → R s t := by
  intro m
  induction m with
  | zero => intro _ h; obtain ⟨s, hs, _⟩ := h; omega
  | succ m ih =>
    intro hm h
    by_cases hu : U m
    · by_cases he : ∃ s, s < m ∧ U s
      · obtain ⟨s, hs, us, hmin⟩ := ih (by omega) he
        by_cases hc : R m s → R s m
        · refine ⟨s, by omega, us, fun t htm ut hts => ?_⟩
          by_cases e : t = m
          · subst e; exact hc hts
          · exact hmin t (by omega) ut hts
        · refine ⟨m, by omega, hu, fun t htm ut htM => ?_⟩
          by_cases e : t = m
          · subst e; exact htM
          · exfalso
            apply hc
            intro hms
            have h1 := hmin t (by omega) ut (ht t m s (by omega) (by omega) (by omega) htM hms)
            exact ht s t m (by omega) (by omega) (by omega) h1 htM
      · refine ⟨m, by omega, hu, fun t htm ut htM => ?_⟩
        by_cases e : t = m
        · subst e; exact htM
        · exact absurd ⟨t, by omega, ut⟩ he
    · obtain ⟨s, hs, us⟩ := h
      have hsm : s ≠ m := fun e => hu (e ▸ us)
      obtain ⟨s', hs', us', hmin⟩ := ih (by omega) ⟨s, by omega, us⟩
      refine ⟨s', by omega, us', fun t htm ut hts => ?_⟩
      have htm' : t ≠ m := fun e => hu (e ▸ ut)
      exact hmin t (by omega) ut hts
/-- v is the circle of s -/
def ll_ci (n : Nat) (bh : Nat → Int32) (s : Nat) (v : Int32) : Prop := ∀ t, bt v t = (decide (t < n) && (bt (bh s) t && bt (bh t) s))
/-- nothing unplaced outside v must come before it -/
def ll_fr (n : Nat) (bh : Nat → Int32) (v pl : Int32) : Prop := ∀ t, t < n → bt v t = false → bt pl t = false → (bh t &&& v) = 0
theorem ll_ci_t {n s t : Nat} {bh : Nat → Int32} {v : Int32} (h : ll_ci n bh s v) : bt v t = true ↔ t < n ∧ bt (bh s) t = true ∧ bt (bh t) s = true := by
  rw [h t, Bool.and_eq_true, Bool.and_eq_true, decide_eq_true_eq]
theorem ll_first {op ar sh bh : Nat → Int32} {n : Nat} {pl : Int32} (w : ll_W op ar sh n n bh) (h : ∃ s, s < n ∧ bt pl s = false) : ∃ s, s < n ∧ bt pl s = false ∧ ∀ v, ll_ci n bh s v → ll_fr n bh v pl := by
  obtain ⟨w1, w2, w3, w4⟩ := w
  obtain ⟨s, hs, us, hm⟩ := ll_min (n := n) (R := fun a b => bt (bh a) b = true) (U := fun a => bt pl a = false) w2 (fun a m t ha hm ht => w4 a m t ha hm ht) n (Nat.le_refl _) h
  refine ⟨s, hs, us, fun v hv t ht hvt hpt => ?_⟩
  apply b_ext
  intro m hm32
  rw [b_0, b_and]
  cases e1 : bt (bh t) m with
  | false => rfl
  | true =>
    cases e2 : bt v m with
    | false => rfl
    | true =>
      exfalso
      have hvm := (ll_ci_t hv).mp e2
      have hts := w4 t m s ht hvm.1 hs e1 hvm.2.2
      have hst := hm t ht hpt hts
      have : bt v t = true := (ll_ci_t hv).mpr ⟨ht, hst, hts⟩
      rw [hvt] at this
      exact absurd this (by decide)
/-! counting -/
def ll_cn (P : Nat → Bool) : Nat → Nat
  | 0 => 0
  | n + 1 => ll_cn P n + (if P n = true then 1 else 0)
theorem ll_cn_le (P : Nat → Bool) : ∀ n, ll_cn P n ≤ n := by
  intro n
  induction n with
  | zero => exact Nat.le_refl _
  | succ n ih =>
    rw [ll_cn]
    split <;> omega
theorem ll_cn_all {P : Nat → Bool} : ∀ n, n ≤ ll_cn P n → ∀ t, t < n → P t = true := by
  intro n
  induction n with
  | zero => intro _ t ht; omega
  | succ n ih =>
    intro h t ht
    rw [ll_cn] at h
    have := ll_cn_le P n
    by_cases hp : P n = true
    · rw [if_pos hp] at h
      by_cases e : t = n
      · rw [e]; exact hp
      · exact ih (by omega) t (by omega)
    · rw [if_neg hp] at h
      omega
theorem ll_cn_of {P : Nat → Bool} : ∀ n, (∀ t, t < n → P t = true) → ll_cn P n = n := by
  intro n
  induction n with
  | zero => intro _; rfl
  | succ n ih =>
    intro h
    rw [ll_cn, if_pos (h n (by omega)), ih (fun t ht => h t (by omega))]
theorem ll_cn_mono {P Q : Nat → Bool} (h : ∀ t, P t = true → Q t = true) : ∀ n, ll_cn P n ≤ ll_cn Q n := by
  intro n
  induction n with
  | zero => exact Nat.le_refl _
  | succ n ih =>
    rw [ll_cn, ll_cn]
    by_cases hp : P n = true
    · rw [if_pos hp, if_pos (h n hp)]; omega
    · rw [if_neg hp]; split <;> omega
theorem ll_cn_lt {P Q : Nat → Bool} (h : ∀ t, P t = true → Q t = true) {s : Nat} (hp : P s = false) (hq : Q s = true) : ∀ n, s < n → ll_cn P n < ll_cn Q n := by
  intro n
  induction n with
  | zero => intro hs; omega
  | succ n ih =>
    intro hs
    rw [ll_cn, ll_cn]
    by_cases e : s = n
    · subst e
      have := ll_cn_mono h s
      rw [if_neg (by rw [hp]; decide), if_pos hq]
      omega
    · have := ih (by omega)
      by_cases hpn : P n = true
      · rw [if_pos hpn, if_pos (h n hpn)]; omega
      · rw [if_neg hpn]; split <;> omega
/-! the plan: groups gr 0 .. gr (G - 1) -/
def ll_pl (gr : Nat → Int32) : Nat → Nat → Bool
  | 0, _ => false
  | G + 1, t => ll_pl gr G t || bt (gr G) t
theorem ll_pl_upd {gr : Nat → Int32} {g : Nat} {v : Int32} : ∀ k, k ≤ g → ∀ t, ll_pl (upd gr g v) k t = ll_pl gr k t := by
  intro k
  induction k with
  | zero => intro _ t; rfl
  | succ k ih =>
    intro hk t
    rw [ll_pl, ll_pl, ih (by omega) t, pk_un (by omega)]
/-- group g may run when those before it have run -/
def ll_gok (n : Nat) (op ar sh gr ft : Nat → Int32) (g : Nat) : Prop :=
  (∀ s, s < n → bt (gr g) s = true → ll_pl gr g s = false) ∧
  (∀ r s, r < n → s < n → ll_pl gr g r = false → bt (gr g) r = false → bt (gr g) s = true → ∀ d, ll_pr op ar sh r s d = false) ∧
  (ft g = 0 ∨ ∃ s, s < n ∧ (∀ t, t < n → bt (gr g) t = decide (t = s)) ∧ ∀ d, 1 ≤ d → d < 4 → ll_fd op ar sh s s d = false)
theorem ll_gok_upd {n : Nat} {op ar sh gr ft : Nat → Int32} {g G : Nat} {v w : Int32} (hg : g < G) (h : ll_gok n op ar sh gr ft g) : ll_gok n op ar sh (upd gr G v) (upd ft G w) g := by
  obtain ⟨h1, h2, h3⟩ := h
  unfold ll_gok
  rw [pk_un (f := gr) (k := G) (j := g) (by omega), pk_un (f := ft) (k := G) (j := g) (by omega)]
  refine ⟨fun s hs hb => ?_, fun r s hr hs hp => ?_, h3⟩
  · rw [ll_pl_upd g (by omega)]; exact h1 s hs hb
  · rw [ll_pl_upd g (by omega)] at hp; exact h2 r s hr hs hp
def ll_OK (n : Nat) (op ar sh gr ft : Nat → Int32) (fg : Int32) : Prop :=
  ∃ G, G ≤ 4 ∧ fg = nI G ∧ (∀ g, g < G → ll_gok n op ar sh gr ft g) ∧ (∀ t, t < n → ll_pl gr G t = true)
end
section
/-! the component's methods that only read -/
def ll_b (b : Bool) : Int32 := if b = true then 1 else 0
theorem ll_br {b : Bool} {A B : Prop} (f : b = false → A) (t : b = true → B) : (ll_b b = 0 → A) ∧ (¬ ll_b b = 0 → B) := by
  cases b with
  | false => exact br_t rfl (f rfl)
  | true => exact br_f (by decide) (t rfl)
theorem ll_p1 {post : Int32 → Prop} {x : Bool} (h : post (ll_b x)) (e : x = true) : post 1 := by subst e; exact h
theorem ll_p0 {post : Int32 → Prop} {x : Bool} (h : post (ll_b x)) (e : x = false) : post 0 := by subst e; exact h
theorem ll_shq {H K d : Nat} (h1 : H < 16) (h2 : K < 16) (h3 : d < 100) : nI H - 4 = nI K - 4 + nI d ↔ H = K + d := by
  have e : nI K - 4 + nI d = nI (K + d) - 4 := by
    rw [← nI_add]
    grind
  rw [e]
  constructor
  · intro h
    have h' : nI H = nI (K + d) := by
      have z := congrArg (fun x => x + 4) h
      simpa only [Int32.sub_add_cancel] using z
    exact (nI_eq (by omega) (by omega)).mp h'
  · intro h
    rw [h]
theorem ll_bA0 {post : Int32 → Prop} {a : Nat} (ha : a < 3) (h : post 0) : wpX_badArray post (nI a) := br_f (nI_pos (by omega)) (br_t (nI_le (b := 2) (by omega) (by decide)) h)
theorem ll_bA1 {post : Int32 → Prop} {x : Int32} (hx : x < 0 ∨ nI 3 ≤ x) (h : post 1) : wpX_badArray post x := by
  refine br_c (fun _ => h) (fun hn => br_f ?_ h)
  rcases hx with hx | hx
  · exact absurd hx hn
  · intro z
    exact absurd (Int32.le_trans hx z) (by decide)
section
variable {fc fr fg : Int32} {cl op ar sh ct bh gr ft ln : Nat → Int32}
theorem ll_xN0 {post : Int32 → Prop} {n q : Nat} (hn : n ≤ 4) (hq : q < n) (h : post 0) : wpX_noStatement post (nI n, fr, fg, cl, op, ar, sh, ct, bh, gr, ft, ln) (nI q) := br_f (nI_pos (by omega)) (br_t (nI_lt hq (by omega)) h)
theorem ll_xN1 {post : Int32 → Prop} {n : Nat} {x : Int32} (hx : x < 0 ∨ nI n ≤ x) (h : post 1) : wpX_noStatement post (nI n, fr, fg, cl, op, ar, sh, ct, bh, gr, ft, ln) x := by
  refine br_c (fun _ => h) (fun hn => br_f ?_ h)
  rcases hx with hx | hx
  · exact absurd hx hn
  · exact Int32.not_lt.mpr hx
theorem ll_xA {post : Int32 → Prop} {q p : Nat} (hq : q < 4) (h : post (nI (ll_a (ar q) p))) : wpX_arrayOf post (fc, fr, fg, cl, op, ar, sh, ct, bh, gr, ft, ln) (nI q) (nI p) := by
  refine And.intro (vp_in_nI hq (by decide)) ?_
  rw [nI_clamp (by omega), ll_a_e]
  exact h
theorem ll_xS {post : Int32 → Prop} {q p : Nat} (hq : q < 4) (h : post (nI (ll_h (sh q) p) - 4)) : wpX_shiftOf post (fc, fr, fg, cl, op, ar, sh, ct, bh, gr, ft, ln) (nI q) (nI p) := by
  refine And.intro (vp_in_nI hq (by decide)) ?_
  rw [nI_clamp (by omega), ll_h_e]
  exact h
theorem ll_xR {post : Int32 → Prop} {q p : Nat} (hq : q < 4) (hp : p = 1 ∨ p = 2) (h : post (ll_b (ll_rd (op q) p))) : wpX_reads post (fc, fr, fg, cl, op, ar, sh, ct, bh, gr, ft, ln) (nI q) (nI p) := by
  have hi : vp_in (nI q) 4 := vp_in_nI hq (by decide)
  have hc : (nI q).toNatClampNeg = q := nI_clamp (by omega)
  rcases hp with rfl | rfl
  · refine br_t (by decide) (And.intro hi ?_)
    rw [hc]
    by_cases e : op q = 5
    · exact br_t e (ll_p0 h (by unfold ll_rd; rw [if_pos rfl, decide_eq_true e]; rfl))
    · exact br_f e (ll_p1 h (by unfold ll_rd; rw [if_pos rfl, decide_eq_false e]; rfl))
  · refine br_f (by decide) (And.intro hi ?_)
    rw [hc]
    by_cases e : 3 < op q
    · exact br_t e (ll_p0 h (by unfold ll_rd; rw [if_neg (by decide), decide_eq_true e]; rfl))
    · exact br_f e (ll_p1 h (by unfold ll_rd; rw [if_neg (by decide), decide_eq_false e]; rfl))
theorem ll_xM {post : Int32 → Prop} {a p b r d : Nat} (ha : a < 4) (hb : b < 4) (hd : d < 100) (h : post (ll_b (ll_mt ar sh a p b r d))) : wpX_meets post (fc, fr, fg, cl, op, ar, sh, ct, bh, gr, ft, ln) (nI a) (nI p) (nI b) (nI r) (nI d) := by
  unfold wpX_meets
  dsimp only
  refine ll_xA ha (ll_xA hb ?_)
  have l1 := ll_a_lt (ar a) p
  have l2 := ll_a_lt (ar b) r
  by_cases e : ll_a (ar a) p = ll_a (ar b) r
  · refine br_t (congrArg nI e) (ll_xS ha (ll_xS hb ?_))
    by_cases e2 : ll_h (sh a) p = ll_h (sh b) r + d
    · exact br_t ((ll_shq (ll_h_lt _ _) (ll_h_lt _ _) hd).mpr e2) (ll_p1 h (by unfold ll_mt; rw [decide_eq_true e, decide_eq_true e2]; rfl))
    · exact br_f (fun z => e2 ((ll_shq (ll_h_lt _ _) (ll_h_lt _ _) hd).mp z)) (ll_p0 h (by unfold ll_mt; rw [decide_eq_false e2, Bool.and_false]))
  · exact br_f (fun z => e ((nI_eq (by omega) (by omega)).mp z)) (ll_p0 h (by unfold ll_mt; rw [decide_eq_false e, Bool.false_and]))
theorem ll_xF_s {post : Int32 → Prop} {a b d p n : Nat} (ha : a < 4) (hb : b < 4) (hd : d < 100) (hp : p = 1 ∨ p = 2)
    (h1 : (ll_rd (op b) p && ll_mt ar sh a 0 b p d) = true → post 1) (h0 : (ll_rd (op b) p && ll_mt ar sh a 0 b p d) = false → wX_feeds_3 post (nI a) (nI b) (nI d) fc fr fg cl op ar sh ct bh gr ft ln n (nI (p + 1))) :
    wX_feeds_3 post (nI a) (nI b) (nI d) fc fr fg cl op ar sh ct bh gr ft ln (n + 1) (nI p) := by
  refine br_f (nI_ge (b := 3) (by omega) (by decide)) (ll_xR hb hp (ll_br (fun hr => ?_) (fun hr => ll_xM ha hb hd (ll_br (fun hm => ?_) (fun hm => ?_)))))
  · unfold wX_feeds_36 wX_feeds_37
    exact br_t rfl (nm_r (nI_1 p) (h0 (by rw [hr, Bool.false_and])))
  · unfold wX_feeds_36 wX_feeds_37
    exact br_t rfl (nm_r (nI_1 p) (h0 (by rw [hm, Bool.and_false])))
  · unfold wX_feeds_37
    exact br_f (by decide) (h1 (by rw [hr, hm]; rfl))
theorem ll_xF {post : Int32 → Prop} {a b d : Nat} (ha : a < 4) (hb : b < 4) (hd : d < 100) (h : post (ll_b (ll_fd op ar sh a b d))) : wpX_feeds post (fc, fr, fg, cl, op, ar, sh, ct, bh, gr, ft, ln) (nI a) (nI b) (nI d) := by
  refine Exists.intro 3 ?_
  refine ll_xF_s (p := 1) (n := 2) ha hb hd (Or.inl rfl) (fun e => ll_p1 h (by unfold ll_fd; rw [e, Bool.true_or])) (fun e1 => ?_)
  refine ll_xF_s (p := 2) (n := 1) ha hb hd (Or.inr rfl) (fun e => ll_p1 h (by unfold ll_fd; rw [e, Bool.or_true])) (fun e2 => ?_)
  exact br_t (by decide) (ll_p0 h (by unfold ll_fd; rw [e1, e2]; rfl))
theorem ll_xO_s {post : Int32 → Prop} {a b d p n : Nat} (ha : a < 4) (hb : b < 4) (hd : d < 100) (hp : p = 1 ∨ p = 2)
    (h1 : (ll_rd (op a) p && ll_mt ar sh a p b 0 d) = true → post 1) (h0 : (ll_rd (op a) p && ll_mt ar sh a p b 0 d) = false → wX_spoils_3 post (nI a) (nI b) (nI d) fc fr fg cl op ar sh ct bh gr ft ln n (nI (p + 1))) :
    wX_spoils_3 post (nI a) (nI b) (nI d) fc fr fg cl op ar sh ct bh gr ft ln (n + 1) (nI p) := by
  refine br_f (nI_ge (b := 3) (by omega) (by decide)) (ll_xR ha hp (ll_br (fun hr => ?_) (fun hr => ll_xM ha hb hd (ll_br (fun hm => ?_) (fun hm => ?_)))))
  · unfold wX_spoils_36 wX_spoils_37
    exact br_t rfl (nm_r (nI_1 p) (h0 (by rw [hr, Bool.false_and])))
  · unfold wX_spoils_36 wX_spoils_37
    exact br_t rfl (nm_r (nI_1 p) (h0 (by rw [hm, Bool.and_false])))
  · unfold wX_spoils_37
    exact br_f (by decide) (h1 (by rw [hr, hm]; rfl))
theorem ll_xO {post : Int32 → Prop} {a b d : Nat} (ha : a < 4) (hb : b < 4) (hd : d < 100) (h : post (ll_b (ll_sp op ar sh a b d))) : wpX_spoils post (fc, fr, fg, cl, op, ar, sh, ct, bh, gr, ft, ln) (nI a) (nI b) (nI d) := by
  refine Exists.intro 3 ?_
  refine ll_xO_s (p := 1) (n := 2) ha hb hd (Or.inl rfl) (fun e => ll_p1 h (by unfold ll_sp; rw [e, Bool.true_or])) (fun e1 => ?_)
  refine ll_xO_s (p := 2) (n := 1) ha hb hd (Or.inr rfl) (fun e => ll_p1 h (by unfold ll_sp; rw [e, Bool.or_true])) (fun e2 => ?_)
  exact br_t (by decide) (ll_p0 h (by unfold ll_sp; rw [e1, e2]; rfl))
theorem ll_xP11 {post : Int32 → Prop} {a b d : Nat} (ha : a < 4) (hb : b < 4) (hd : d < 100) (h : post (ll_b (ll_cf op ar sh a b d))) : wX_precedes_11 post (nI a) (nI b) (nI d) fc fr fg cl op ar sh ct bh gr ft ln := by
  unfold wX_precedes_11
  refine ll_xM (p := 0) (r := 0) ha hb hd (ll_br (fun e0 => ll_xF ha hb hd (ll_br (fun e1 => ll_xO ha hb hd (ll_br (fun e2 => ?_) (fun e2 => ?_))) (fun e1 => ?_))) (fun e0 => ?_))
  · exact ll_p0 h (by unfold ll_cf; rw [e0, e1, e2]; rfl)
  · exact ll_p1 h (by unfold ll_cf; rw [e2, Bool.or_true, Bool.or_true])
  · exact ll_p1 h (by unfold ll_cf; rw [e1, Bool.true_or, Bool.or_true])
  · exact ll_p1 h (by unfold ll_cf; rw [e0, Bool.true_or])
theorem ll_xP {post : Int32 → Prop} {a b d : Nat} (ha : a < 4) (hb : b < 4) (hd : d < 100) (h : post (ll_b (ll_pr op ar sh a b d))) : wpX_precedes post (fc, fr, fg, cl, op, ar, sh, ct, bh, gr, ft, ln) (nI a) (nI b) (nI d) := by
  unfold wpX_precedes
  dsimp only
  unfold ll_pr at h
  by_cases h0 : d = 0
  · subst h0
    refine br_t rfl ?_
    by_cases h1 : a < b
    · rw [if_neg (by omega)] at h
      exact br_t (nI_lt h1 (by omega)) (ll_xP11 ha hb hd h)
    · rw [if_pos (by omega)] at h
      exact br_f (nI_nlt (by omega) (by omega)) h
  · rw [if_neg (by omega)] at h
    exact br_f (nI_ne0 (by omega) (by omega)) (ll_xP11 ha hb hd h)
theorem ll_xE_l {post : Int32 → Prop} {a b : Nat} (ha : a < 4) (hb : b < 4) : ∀ (k d : Nat), d + k = 9 → post (ll_b (ll_pe op ar sh a b k d)) → wX_precedesAtAll_2 post (nI a) (nI b) fc fr fg cl op ar sh ct bh gr ft ln (k + 1) (nI d) := by
  intro k
  induction k with
  | zero =>
    intro d hd h
    exact br_t (nI_lt (a := 8) (by omega) (by omega)) h
  | succ k ih =>
    intro d hd h
    rw [ll_pe] at h
    refine br_f ?_ (ll_xP ha hb (by omega) (ll_br (fun e => ?_) (fun e => ?_)))
    · exact fun z => absurd ((nI_ltI (a := 8) (by omega) (by omega)).mp z) (by omega)
    · rw [e, Bool.false_or] at h
      exact nm_r (nI_1 d) (ih (d + 1) (by omega) h)
    · exact ll_p1 h (by rw [e, Bool.true_or])
theorem ll_xE {post : Int32 → Prop} {a b : Nat} (ha : a < 4) (hb : b < 4) (h : post (ll_b (ll_e op ar sh a b))) : wpX_precedesAtAll post (fc, fr, fg, cl, op, ar, sh, ct, bh, gr, ft, ln) (nI a) (nI b) := Exists.intro 10 (ll_xE_l ha hb 9 0 (by omega) h)
theorem ll_xL_l {post : Int32 → Prop} {x : Int32} (h : ∀ l, l < 4 → (∀ j, j < l → bt x j = false) → (l < 3 → bt x l = true) → post (nI l)) : ∀ (k l : Nat), l + k = 3 → (∀ j, j < l → bt x j = false) → wX_lowest_2 post x (k + 1) (nI l) := by
  intro k
  induction k with
  | zero =>
    intro l hl hj
    exact br_t (nI_le (a := 3) (by omega) (by omega)) (h l (by omega) hj (fun z => by omega))
  | succ k ih =>
    intro l hl hj
    refine br_f (nI_ge (b := 3) (by omega) (by decide)) ?_
    by_cases e : bt x l = true
    · exact br_f (fun z => by rw [ll_bit0 (by omega), e] at z; exact absurd z (by decide)) (h l (by omega) hj (fun _ => e))
    · have e' : bt x l = false := Bool.eq_false_iff.mpr e
      refine br_t ((ll_bit0 (by omega)).mpr e') (nm_r (nI_1 l) (ih (l + 1) (by omega) ?_))
      exact lt_s hj e'
theorem ll_xL {post : Int32 → Prop} {x : Int32} (h : ∀ l, l < 4 → (∀ j, j < l → bt x j = false) → (l < 3 → bt x l = true) → post (nI l)) : wpX_lowest post x := Exists.intro 4 (ll_xL_l h 3 0 (by omega) (fun j hj => absurd hj (Nat.not_lt_zero _)))
theorem ll_xT_l {post : Int32 → Prop} {s : Nat} (hs : s < 4) (h0 : post 0) (h1 : (∀ d, 1 ≤ d → d < 4 → ll_fd op ar sh s s d = false) → post 1) : ∀ (k d : Nat), d + k = 4 → (∀ e, 1 ≤ e → e < d → ll_fd op ar sh s s e = false) → wX_fitsLanes_2 post (nI s) fc fr fg cl op ar sh ct bh gr ft ln (k + 1) (nI d) := by
  intro k
  induction k with
  | zero =>
    intro d hd hj
    exact br_t (nI_le (a := 4) (by omega) (by omega)) (h1 (fun e h h' => hj e h (by omega)))
  | succ k ih =>
    intro d hd hj
    refine br_f (nI_ge (b := 4) (by omega) (by decide)) (ll_xF hs hs (by omega) (ll_br (fun e => ?_) (fun _ => h0)))
    refine nm_r (nI_1 d) (ih (d + 1) (by omega) ?_)
    intro x hx hx'
    by_cases z : x = d
    · rw [z]; exact e
    · exact hj x hx (by omega)
theorem ll_xT {post : Int32 → Prop} {s : Nat} (hs : s < 4) (h0 : post 0) (h1 : (∀ d, 1 ≤ d → d < 4 → ll_fd op ar sh s s d = false) → post 1) : wpX_fitsLanes post (fc, fr, fg, cl, op, ar, sh, ct, bh, gr, ft, ln) (nI s) := Exists.intro 4 (ll_xT_l hs h0 h1 3 1 (by omega) (fun e h h' => by omega))
end
end
section
/-! findBehind: the closure -/
theorem ll_i0 {E : Nat → Bool} {b : Nat} (e : E b = false) (t : Nat) : (decide (t < b) && E t) = (decide (t < b + 1) && E t) := by
  by_cases h : t = b
  · rw [h, e, Bool.and_false, Bool.and_false]
  · by_cases h2 : t < b
    · rw [decide_eq_true h2, decide_eq_true (by omega : t < b + 1)]
    · rw [decide_eq_false h2, decide_eq_false (by omega : ¬ t < b + 1)]
theorem ll_i1 {E : Nat → Bool} {b : Nat} (e : E b = true) (t : Nat) : ((decide (t < b) && E t) || decide (t = b)) = (decide (t < b + 1) && E t) := by
  by_cases h : t = b
  · rw [h, e, decide_eq_true rfl, Bool.or_true, decide_eq_true (by omega : b < b + 1)]
    rfl
  · rw [decide_eq_false h, Bool.or_false]
    by_cases h2 : t < b
    · rw [decide_eq_true h2, decide_eq_true (by omega : t < b + 1)]
    · rw [decide_eq_false h2, decide_eq_false (by omega : ¬ t < b + 1)]
section
variable {fr fg : Int32} {cl op ar sh ct gr ft ln : Nat → Int32}
theorem ll_fb21 {post : SX → Prop} {J : Int32 → (Nat → Int32) → (Nat → Int32) → (Nat → Int32) → (Nat → Int32) → (Nat → Int32) → (Nat → Int32) → (Nat → Int32) → (Nat → Int32) → (Nat → Int32) → Prop} {n a : Nat} (hn : n ≤ 4) (ha : a < n) :
    ∀ (k b : Nat) (bh : Nat → Int32), b + k = n → (∀ t, bt (bh a) t = (decide (t = a) || (decide (t < b) && ll_e op ar sh a t))) →
    (∀ bh' : Nat → Int32, (∀ j, j ≠ a → bh' j = bh j) → (∀ t, bt (bh' a) t = (decide (t = a) || (decide (t < n) && ll_e op ar sh a t))) → J (nI (a + 1)) cl op ar sh ct bh' gr ft ln) →
    wX_findBehind_21 post J (nI a) (nI n) fr fg (k + 1) (nI b) cl op ar sh ct bh gr ft ln := by
  intro k
  induction k with
  | zero =>
    intro b bh hb hi hJ
    have e : b = n := by omega
    subst e
    exact br_t (nI_le (Nat.le_refl _) (by omega)) (nm_r (nI_1 a) (hJ bh (fun _ _ => rfl) hi))
  | succ k ih =>
    intro b bh hb hi hJ
    refine br_f (nI_ge (by omega) (by omega)) (ll_xE (by omega) (by omega) (ll_br (fun e => ?_) (fun e => ?_)))
    · refine nm_r (nI_1 b) (ih (b + 1) bh (by omega) (fun t => ?_) hJ)
      rw [hi t, ll_i0 (E := fun t => ll_e op ar sh a t) e t]
    · have hv : vp_in (nI a) 4 := vp_in_nI (by omega) (by decide)
      refine And.intro hv (And.intro hv ?_)
      rw [nI_clamp (by omega)]
      refine nm_e (nm_r (nI_1 b) (ih (b + 1) _ (by omega) (fun t => ?_) (fun bh' h1 h2 => hJ bh' (fun j hj => ?_) h2)))
      · rw [pk_us, b_or, hi t, ll_bsh (by omega) t, Bool.or_assoc, ll_i1 (E := fun t => ll_e op ar sh a t) e t]
      · rw [h1 j hj, pk_un hj]
theorem ll_fb2 {post : SX → Prop} {n : Nat} (hn : n ≤ 4)
    (hp : ∀ bh' : Nat → Int32, (∀ j, j < n → ∀ t, bt (bh' j) t = (decide (t = j) || (decide (t < n) && ll_e op ar sh j t))) → ∃ m, wX_findBehind_66 post (nI n) fr fg m 0 cl op ar sh ct bh' gr ft ln) :
    ∀ (k a : Nat) (bh : Nat → Int32), a + k = n → (∀ j, j < a → ∀ t, bt (bh j) t = (decide (t = j) || (decide (t < n) && ll_e op ar sh j t))) →
    wX_findBehind_2 post (nI n) fr fg (k + 1) (nI a) cl op ar sh ct bh gr ft ln := by
  intro k
  induction k with
  | zero =>
    intro a bh ha hi
    have e : a = n := by omega
    subst e
    exact br_t (nI_le (Nat.le_refl _) (by omega)) (hp bh hi)
  | succ k ih =>
    intro a bh ha hi
    refine br_f (nI_ge (by omega) (by omega)) (And.intro (vp_in_nI (by omega) (by decide)) ?_)
    rw [nI_clamp (by omega)]
    refine nm_e (Exists.intro (n + 1) (ll_fb21 hn (by omega) n 0 _ (by omega) (fun t => ?_) (fun bh' h1 h2 => ih (a + 1) bh' (by omega) (fun j hj => ?_))))
    · rw [pk_us, ll_bsh (by omega) t, decide_eq_false (Nat.not_lt_zero t), Bool.false_and, Bool.or_false]
    · intro t
      by_cases e : j = a
      · rw [e]; exact h2 t
      · rw [h1 j e, pk_un e]; exact hi j (by omega) t
theorem ll_fb76 {post : SX → Prop} {J : Int32 → (Nat → Int32) → (Nat → Int32) → (Nat → Int32) → (Nat → Int32) → (Nat → Int32) → (Nat → Int32) → (Nat → Int32) → (Nat → Int32) → (Nat → Int32) → Prop} {n k : Nat} {b0 : Nat → Int32} (hn : n ≤ 4) (hk : k < n)
    (hJ : ∀ bh' : Nat → Int32, (∀ j, j < n → ∀ t, bt (bh' j) t = (bt (b0 j) t || (bt (b0 j) k && bt (b0 k) t))) → J (nI (k + 1)) cl op ar sh ct bh' gr ft ln) :
    ∀ (m a : Nat) (bh : Nat → Int32), a + m = n → (∀ j t, bt (bh j) t = (bt (b0 j) t || (decide (j < a) && (bt (b0 j) k && bt (b0 k) t)))) →
    wX_findBehind_76 post J (nI k) (nI n) fr fg (m + 1) (nI a) cl op ar sh ct bh gr ft ln := by
  intro m
  induction m with
  | zero =>
    intro a bh ha hi
    have e : a = n := by omega
    subst e
    exact br_t (nI_le (Nat.le_refl _) (by omega)) (nm_r (nI_1 k) (hJ bh (fun j hj t => by rw [hi j t, decide_eq_true hj, Bool.true_and])))
  | succ m ih =>
    intro a bh ha hi
    have hva : vp_in (nI a) 4 := vp_in_nI (by omega) (by decide)
    have hvk : vp_in (nI k) 4 := vp_in_nI (by omega) (by decide)
    have ra : ∀ t, bt (bh a) t = bt (b0 a) t := by
      intro t
      rw [hi a t, decide_eq_false (Nat.lt_irrefl a), Bool.false_and, Bool.or_false]
    have rk : ∀ t, bt (bh k) t = bt (b0 k) t := by
      intro t
      rw [hi k t]
      cases bt (b0 k) t with
      | true => rfl
      | false => rw [Bool.and_false, Bool.and_false]; rfl
    have oth : ∀ j, j ≠ a → decide (j < a) = decide (j < a + 1) := by
      intro j hj
      by_cases h2 : j < a
      · rw [decide_eq_true h2, decide_eq_true (by omega : j < a + 1)]
      · rw [decide_eq_false h2, decide_eq_false (by omega : ¬ j < a + 1)]
    refine br_f (nI_ge (by omega) (by omega)) (And.intro hva ?_)
    rw [nI_clamp (by omega : a < 2 ^ 31), nI_clamp (by omega : k < 2 ^ 31)]
    by_cases e : bt (b0 a) k = true
    · refine br_t ((ll_bit1 (by omega)).mpr ((ra k).trans e)) (And.intro hva (And.intro hvk (And.intro hva (nm_e (nm_r (nI_1 a) (ih (a + 1) _ (by omega) (fun j t => ?_)))))))
      by_cases hj : j = a
      · subst hj
        rw [pk_us, b_or, ra t, rk t, e, decide_eq_true (by omega : j < j + 1), Bool.true_and, Bool.true_and]
      · rw [pk_un hj, hi j t, oth j hj]
    · have e' : bt (b0 a) k = false := Bool.eq_false_iff.mpr e
      refine br_f (fun z => e ((ra k).symm.trans ((ll_bit1 (by omega)).mp z))) (nm_r (nI_1 a) (ih (a + 1) _ (by omega) (fun j t => ?_)))
      by_cases hj : j = a
      · subst hj
        rw [ra t, e', Bool.false_and, Bool.and_false, Bool.or_false]
      · rw [hi j t, oth j hj]
theorem ll_fb66 {post : SX → Prop} {n : Nat} (hn : n ≤ 4) (hp : ∀ bh' : Nat → Int32, ll_W op ar sh n n bh' → post (nI n, fr, fg, cl, op, ar, sh, ct, bh', gr, ft, ln)) :
    ∀ (m k : Nat) (bh : Nat → Int32), k + m = n → ll_W op ar sh n k bh → wX_findBehind_66 post (nI n) fr fg (m + 1) (nI k) cl op ar sh ct bh gr ft ln := by
  intro m
  induction m with
  | zero =>
    intro k bh hk w
    have e : k = n := by omega
    subst e
    exact br_t (nI_le (Nat.le_refl _) (by omega)) (hp bh w)
  | succ m ih =>
    intro k bh hk w
    refine br_f (nI_ge (by omega) (by omega)) (Exists.intro (n + 1) (ll_fb76 (b0 := bh) hn (by omega) (fun bh' h => ih (k + 1) bh' (by omega) (ll_W1 (by omega) w h)) n 0 bh (by omega) (fun j t => ?_)))
    rw [decide_eq_false (Nat.not_lt_zero j), Bool.false_and, Bool.or_false]
theorem ll_xB {post : SX → Prop} {n : Nat} {bh : Nat → Int32} (hn : n ≤ 4) (hp : ∀ bh' : Nat → Int32, ll_W op ar sh n n bh' → post (nI n, fr, fg, cl, op, ar, sh, ct, bh', gr, ft, ln)) : wpX_findBehind post (nI n, fr, fg, cl, op, ar, sh, ct, bh, gr, ft, ln) :=
  Exists.intro (n + 1) (ll_fb2 hn (fun bh' h => Exists.intro (n + 1) (ll_fb66 hn hp n 0 bh' (by omega) (ll_W0 h))) n 0 bh (by omega) (fun j hj => absurd hj (Nat.not_lt_zero _)))
end
end
section
/-! circleOf, free, nextGroup, plan -/
def ll_bad (n : Nat) (bh : Nat → Int32) (pl : Int32) (x : Nat) : Prop := ∃ v, ll_ci n bh x v ∧ ¬ ll_fr n bh v pl
theorem ll_b2 (x y : Int32) {t : Nat} : bt (x ||| y) t = false ↔ bt x t = false ∧ bt y t = false := by rw [b_or, Bool.or_eq_false_iff]
section
variable {fr fg : Int32} {cl op ar sh ct bh gr ft ln : Nat → Int32}
theorem ll_xC_l {post : Int32 → Prop} {n s : Nat} (hn : n ≤ 4) (hs : s < n) (hp : ∀ v, ll_ci n bh s v → post v) :
    ∀ (m t : Nat) (v : Int32), t + m = n → (∀ x, bt v x = (decide (x < t) && (bt (bh s) x && bt (bh x) s))) → wX_circleOf_4 post (nI s) (nI n) fr fg cl op ar sh ct bh gr ft ln (m + 1) v (nI t) := by
  intro m
  induction m with
  | zero =>
    intro t v ht hv
    have e : t = n := by omega
    subst e
    exact br_t (nI_le (Nat.le_refl _) (by omega)) (hp v hv)
  | succ m ih =>
    intro t v ht hv
    have hvs : vp_in (nI s) 4 := vp_in_nI (by omega) (by decide)
    have hvt : vp_in (nI t) 4 := vp_in_nI (by omega) (by decide)
    refine br_f (nI_ge (by omega) (by omega)) (And.intro hvs ?_)
    rw [nI_clamp (by omega : s < 2 ^ 31), nI_clamp (by omega : t < 2 ^ 31)]
    by_cases e1 : bt (bh s) t = true
    · refine br_t ((ll_bit1 (by omega)).mpr e1) (And.intro hvt ?_)
      by_cases e2 : bt (bh t) s = true
      · refine br_t ((ll_bit1 (by omega)).mpr e2) (nm_e (nm_r (nI_1 t) (ih (t + 1) _ (by omega) (fun x => ?_))))
        rw [b_or, hv x, ll_bsh (by omega) x]
        exact ll_i1 (E := fun x => bt (bh s) x && bt (bh x) s) (by show (bt (bh s) t && bt (bh t) s) = true; rw [e1, e2]; rfl) x
      · refine br_f (fun z => e2 ((ll_bit1 (by omega)).mp z)) (nm_r (nI_1 t) (ih (t + 1) _ (by omega) (fun x => ?_)))
        rw [hv x]
        exact ll_i0 (E := fun x => bt (bh s) x && bt (bh x) s) (by show (bt (bh s) t && bt (bh t) s) = false; rw [Bool.eq_false_iff.mpr e2, Bool.and_false]) x
    · refine br_f (fun z => e1 ((ll_bit1 (by omega)).mp z)) (nm_r (nI_1 t) (ih (t + 1) _ (by omega) (fun x => ?_)))
      rw [hv x]
      exact ll_i0 (E := fun x => bt (bh s) x && bt (bh x) s) (by show (bt (bh s) t && bt (bh t) s) = false; rw [Bool.eq_false_iff.mpr e1, Bool.false_and]) x
theorem ll_xC {post : Int32 → Prop} {n s : Nat} (hn : n ≤ 4) (hs : s < n) (hp : ∀ v, ll_ci n bh s v → post v) : wpX_circleOf post (nI n, fr, fg, cl, op, ar, sh, ct, bh, gr, ft, ln) (nI s) :=
  Exists.intro (n + 1) (ll_xC_l hn hs hp n 0 0 (by omega) (fun x => by rw [b_0, decide_eq_false (Nat.not_lt_zero x), Bool.false_and]))
theorem ll_xU_l {post : Int32 → Prop} {n : Nat} {v pl : Int32} (hn : n ≤ 4) (h1 : ll_fr n bh v pl → post 1) (h0 : ¬ ll_fr n bh v pl → post 0) :
    ∀ (m t : Nat), t + m = n → (∀ x, x < t → bt v x = false → bt pl x = false → (bh x &&& v) = 0) → wX_free_2 post v pl (nI n) fr fg cl op ar sh ct bh gr ft ln (m + 1) (nI t) := by
  intro m
  induction m with
  | zero =>
    intro t ht hv
    have e : t = n := by omega
    subst e
    exact br_t (nI_le (Nat.le_refl _) (by omega)) (h1 hv)
  | succ m ih =>
    intro t ht hv
    have hvt : vp_in (nI t) 4 := vp_in_nI (by omega) (by decide)
    refine br_f (nI_ge (by omega) (by omega)) ?_
    by_cases e : bt v t = false ∧ bt pl t = false
    · refine br_t ((ll_bit0 (by omega)).mpr ((ll_b2 v pl).mpr e)) ?_
      unfold wX_free_25
      refine br_f (by decide) (And.intro hvt ?_)
      rw [nI_clamp (by omega : t < 2 ^ 31)]
      by_cases z : (bh t &&& v) = 0
      · exact br_t z (nm_r (nI_1 t) (ih (t + 1) (by omega) (lt_s hv (fun _ _ => z))))
      · exact br_f z (h0 (fun hf => z (hf t (by omega) e.1 e.2)))
    · refine br_f (fun z => e ((ll_b2 v pl).mp ((ll_bit0 (by omega)).mp z))) ?_
      unfold wX_free_25
      exact br_t rfl (nm_r (nI_1 t) (ih (t + 1) (by omega) (lt_s hv (fun a b => absurd ⟨a, b⟩ e))))
theorem ll_xU {post : Int32 → Prop} {n : Nat} {v pl : Int32} (hn : n ≤ 4) (h1 : ll_fr n bh v pl → post 1) (h0 : ¬ ll_fr n bh v pl → post 0) : wpX_free post (nI n, fr, fg, cl, op, ar, sh, ct, bh, gr, ft, ln) v pl :=
  Exists.intro (n + 1) (ll_xU_l hn h1 h0 n 0 (by omega) (fun j hj => absurd hj (Nat.not_lt_zero _)))
theorem ll_xG_l {post : Int32 → Prop} {n : Nat} {pl : Int32} (hn : n ≤ 4) (h0 : (∀ x, x < n → bt pl x = false → ll_bad n bh pl x) → post 0) (h1 : ∀ s v, s < n → bt pl s = false → ll_ci n bh s v → ll_fr n bh v pl → post v) :
    ∀ (m s : Nat), s + m = n → (∀ x, x < s → bt pl x = false → ll_bad n bh pl x) → wX_nextGroup_2 post pl (nI n) fr fg cl op ar sh ct bh gr ft ln (m + 1) (nI s) := by
  intro m
  induction m with
  | zero =>
    intro s hs hv
    have e : s = n := by omega
    subst e
    exact br_t (nI_le (Nat.le_refl _) (by omega)) (h0 hv)
  | succ m ih =>
    intro s hs hv
    refine br_f (nI_ge (by omega) (by omega)) ?_
    by_cases e : bt pl s = false
    · refine br_t ((ll_bit0 (by omega)).mpr e) (ll_xC hn (by omega) (fun v hc => ll_xU hn (fun hf => br_f (by decide) (h1 s v (by omega) e hc hf)) (fun hf => br_t rfl (nm_r (nI_1 s) (ih (s + 1) (by omega) (lt_s hv (fun _ => ⟨v, hc, hf⟩)))))))
    · exact br_f (fun z => e ((ll_bit0 (by omega)).mp z)) (nm_r (nI_1 s) (ih (s + 1) (by omega) (lt_s hv (fun z => absurd z e))))
theorem ll_xG {post : Int32 → Prop} {n : Nat} {pl : Int32} (hn : n ≤ 4) (h0 : (∀ x, x < n → bt pl x = false → ll_bad n bh pl x) → post 0) (h1 : ∀ s v, s < n → bt pl s = false → ll_ci n bh s v → ll_fr n bh v pl → post v) : wpX_nextGroup post (nI n, fr, fg, cl, op, ar, sh, ct, bh, gr, ft, ln) pl :=
  Exists.intro (n + 1) (ll_xG_l hn h0 h1 n 0 (by omega) (fun j hj => absurd hj (Nat.not_lt_zero _)))
end
/-- where the plan's loop stands: r rounds done, G groups, those of pl placed -/
def ll_PI (n : Nat) (op ar sh bh : Nat → Int32) (pl : Int32) (r G : Nat) (gr ft : Nat → Int32) : Prop :=
  G ≤ r ∧ (∀ t, t < n → bt pl t = ll_pl gr G t) ∧ (∀ g, g < G → ll_gok n op ar sh gr ft g) ∧
  (∀ s t, s < n → t < n → ll_pl gr G s = true → bt (bh s) t = true → bt (bh t) s = true → ll_pl gr G t = true) ∧ r ≤ ll_cn (ll_pl gr G) n
theorem ll_PI_0 {n : Nat} {op ar sh bh gr ft : Nat → Int32} : ll_PI n op ar sh bh 0 0 0 gr ft := by
  refine ⟨Nat.le_refl _, fun t _ => b_0 t, fun g hg => absurd hg (Nat.not_lt_zero _), fun s t _ _ h => absurd (show false = true from h) (by decide), Nat.zero_le _⟩
theorem ll_PI_skip {n r G : Nat} {op ar sh bh gr ft : Nat → Int32} {pl : Int32} (w : ll_W op ar sh n n bh) (hr : r < n) (h : ll_PI n op ar sh bh pl r G gr ft) (hb : ∀ x, x < n → bt pl x = false → ll_bad n bh pl x) : ll_PI n op ar sh bh pl (r + 1) G gr ft := by
  obtain ⟨h1, h2, h3, h4, h5⟩ := h
  have all : ∀ t, t < n → ll_pl gr G t = true := by
    intro t ht
    rw [← h2 t ht]
    cases e : bt pl t with
    | true => rfl
    | false =>
      exfalso
      obtain ⟨s, hs, us, hf⟩ := ll_first w ⟨t, ht, e⟩
      obtain ⟨v, hc, hn⟩ := hb s hs us
      exact hn (hf v hc)
  refine ⟨by omega, h2, h3, h4, ?_⟩
  rw [ll_cn_of n all]
  omega
theorem ll_PI_put {n r G s : Nat} {op ar sh bh gr ft : Nat → Int32} {pl v z : Int32} (hB : ll_B n ar sh) (w : ll_W op ar sh n n bh) (h : ll_PI n op ar sh bh pl r G gr ft) (hs : s < n) (us : bt pl s = false) (hc : ll_ci n bh s v) (hf : ll_fr n bh v pl)
    (hz : z = 0 ∨ ∃ l, l < n ∧ (∀ t, t < n → bt v t = decide (t = l)) ∧ ∀ d, 1 ≤ d → d < 4 → ll_fd op ar sh l l d = false) :
    ll_PI n op ar sh bh (pl ||| v) (r + 1) (G + 1) (upd gr G v) (upd ft G z) := by
  obtain ⟨h1, h2, h3, h4, h5⟩ := h
  obtain ⟨w1, w2, w3, w4⟩ := w
  have q : ∀ t, ll_pl (upd gr G v) (G + 1) t = (ll_pl gr G t || bt v t) := by
    intro t
    rw [ll_pl, ll_pl_upd G (Nat.le_refl _), pk_us]
  have vs : bt v s = true := (ll_ci_t hc).mpr ⟨hs, w2 s hs, w2 s hs⟩
  have us' : ll_pl gr G s = false := by rw [← h2 s hs]; exact us
  refine ⟨by omega, fun t ht => ?_, fun g hg => ?_, fun a t ha ht hp ha1 ha2 => ?_, ?_⟩
  · rw [b_or, h2 t ht, q t]
  · by_cases e : g < G
    · exact ll_gok_upd e (h3 g e)
    · have eg : g = G := by omega
      subst eg
      unfold ll_gok
      rw [pk_us, pk_us]
      refine ⟨fun x hx hb => ?_, fun a b ha hb hp hva hvb d => ?_, hz⟩
      · rw [ll_pl_upd g (Nat.le_refl _)]
        have hx' := (ll_ci_t hc).mp hb
        cases e2 : ll_pl gr g x with
        | false => rfl
        | true =>
          have := h4 x s hx hs e2 hx'.2.2 hx'.2.1
          rw [us'] at this
          exact absurd this (by decide)
      · rw [ll_pl_upd g (Nat.le_refl _), ← h2 a ha] at hp
        have hz0 := hf a ha hva hp
        have hz1 : bt (bh a &&& v) b = false := by rw [hz0, b_0]
        rw [b_and, hvb, Bool.and_true] at hz1
        refine ll_e_f hB ha ?_ d
        cases e2 : ll_e op ar sh a b with
        | false => rfl
        | true =>
          have := w3 a b ha hb e2
          rw [hz1] at this
          exact absurd this (by decide)
  · rw [q a, Bool.or_eq_true] at hp
    rw [q t, Bool.or_eq_true]
    rcases hp with hp | hp
    · left; exact h4 a t ha ht hp ha1 ha2
    · right
      have hx' := (ll_ci_t hc).mp hp
      exact (ll_ci_t hc).mpr ⟨ht, w4 s a t hs ha ht hx'.2.1 ha1, w4 t a s ht ha hs ha2 hx'.2.2⟩
  · have := ll_cn_lt (P := ll_pl gr G) (Q := ll_pl (upd gr G v) (G + 1)) (fun t ht => by rw [q t, ht, Bool.true_or]) us' (by rw [q s, vs, Bool.or_true]) n hs
    omega
section
variable {fr : Int32} {cl op ar sh ct bh ln : Nat → Int32}
theorem ll_x94 {post : SX → Prop} {J : Int32 → Int32 → Int32 → (Nat → Int32) → (Nat → Int32) → (Nat → Int32) → (Nat → Int32) → (Nat → Int32) → (Nat → Int32) → (Nat → Int32) → (Nat → Int32) → (Nat → Int32) → Prop} {n r G : Nat} {pl v z : Int32} {gr ft : Nat → Int32} (hG : G < 4)
    (h : J (pl ||| v) (nI (r + 1)) (nI (G + 1)) cl op ar sh ct bh gr (upd ft G (vp_nar .boolean z)) ln) : wX_plan_94 post J pl (nI r) v z (nI G) (nI n) fr (nI G) cl op ar sh ct bh gr ft ln := by
  unfold wX_plan_94
  refine And.intro (vp_in_nI hG (by decide)) ?_
  rw [nI_clamp (by omega : G < 2 ^ 31)]
  exact nm_e (nm_r (nI_1 G) (nm_e (nm_r (nI_1 r) h)))
theorem ll_x93 {post : SX → Prop} {J : Int32 → Int32 → Int32 → (Nat → Int32) → (Nat → Int32) → (Nat → Int32) → (Nat → Int32) → (Nat → Int32) → (Nat → Int32) → (Nat → Int32) → (Nat → Int32) → (Nat → Int32) → Prop} {n r G : Nat} {pl v : Int32} {gr ft : Nat → Int32} (hG : G < 4)
    (h : J (pl ||| v) (nI (r + 1)) (nI (G + 1)) cl op ar sh ct bh gr (upd ft G 0) ln) : wX_plan_93 post J pl (nI r) v (nI G) (nI n) fr (nI G) cl op ar sh ct bh gr ft ln := ll_x94 hG h
theorem ll_x26 {post : SX → Prop} {n : Nat} (hn : n ≤ 4) (hB : ll_B n ar sh) (w : ll_W op ar sh n n bh) (hp : ∀ (fg' : Int32) (gr' ft' : Nat → Int32), ll_OK n op ar sh gr' ft' fg' → post (nI n, fr, fg', cl, op, ar, sh, ct, bh, gr', ft', ln)) :
    ∀ (m r G : Nat) (pl : Int32) (gr ft : Nat → Int32), r + m = n → ll_PI n op ar sh bh pl r G gr ft → wX_plan_26 post (nI n) fr (m + 1) pl (nI r) (nI G) cl op ar sh ct bh gr ft ln := by
  intro m
  induction m with
  | zero =>
    intro r G pl gr ft hr h
    have e : r = n := by omega
    subst e
    exact br_t (nI_le (Nat.le_refl _) (by omega)) (hp _ gr ft ⟨G, by have := h.1; omega, rfl, h.2.2.1, ll_cn_all r h.2.2.2.2⟩)
  | succ m ih =>
    intro r G pl gr ft hr h
    have hG : G < 4 := by have := h.1; omega
    refine br_f (nI_ge (by omega) (by omega)) (ll_xG hn (fun hb => br_t rfl (nm_r (nI_1 r) (ih (r + 1) G pl gr ft (by omega) (ll_PI_skip w (by omega) h hb)))) (fun s v hs us hc hf => ?_))
    have vs : bt v s = true := (ll_ci_t hc).mpr ⟨hs, w.2.1 s hs, w.2.1 s hs⟩
    refine br_f (ll_ne0 vs) (And.intro (vp_in_nI hG (by decide)) ?_)
    rw [nI_clamp (by omega : G < 2 ^ 31)]
    have go : ∀ z, (z = 0 ∨ ∃ l, l < n ∧ (∀ t, t < n → bt v t = decide (t = l)) ∧ ∀ d, 1 ≤ d → d < 4 → ll_fd op ar sh l l d = false) → wX_plan_26 post (nI n) fr (m + 1) (pl ||| v) (nI (r + 1)) (nI (G + 1)) cl op ar sh ct bh (upd gr G v) (upd ft G z) ln := fun z hz => ih (r + 1) (G + 1) (pl ||| v) _ _ (by omega) (ll_PI_put hB w h hs us hc hf hz)
    refine nm_e (br_c (fun h1 => ll_xL (fun l hl hj hl3 => ?_)) (fun h1 => ll_xL (fun l hl hj hl3 => ?_)))
    · refine br_f (by decide) (ll_xT hl (br_t rfl (ll_x93 hG (go 0 (Or.inl rfl)))) (fun hd => br_f (by decide) (ll_x94 hG (go 1 (Or.inr ⟨l, ?_, fun t ht => ?_, hd⟩)))))
      · have := ll_one (fun t ht => Nat.lt_of_lt_of_le ((ll_ci_t hc).mp ht).1 hn) (ll_ne0 vs) h1 hl hj hl3 s (by omega)
        rw [vs] at this
        have := of_decide_eq_true this.symm
        omega
      · exact ll_one (fun t ht => Nat.lt_of_lt_of_le ((ll_ci_t hc).mp ht).1 hn) (ll_ne0 vs) h1 hl hj hl3 t (by omega)
    · exact br_t rfl (ll_x93 hG (go 0 (Or.inl rfl)))
theorem ll_xPlan {post : SX → Prop} {n : Nat} {fg : Int32} {gr ft : Nat → Int32} (hn : n ≤ 4) (hB : ll_B n ar sh) (hr : fr = 0 ∨ ll_OK n op ar sh gr ft fg)
    (hp : ∀ (fr' fg' : Int32) (bh' gr' ft' : Nat → Int32), ll_OK n op ar sh gr' ft' fg' → post (nI n, fr', fg', cl, op, ar, sh, ct, bh', gr', ft', ln)) : wpX_plan post (nI n, fr, fg, cl, op, ar, sh, ct, bh, gr, ft, ln) := by
  unfold wpX_plan
  dsimp only
  by_cases e : fr = 0
  · refine br_t e (ll_xB hn (fun bh' w => ?_))
    exact Exists.intro (n + 1) (ll_x26 hn hB w (fun fg' gr' ft' h => hp 1 fg' bh' gr' ft' h) n 0 0 0 gr ft (by omega) ll_PI_0)
  · refine br_f e (hp fr fg bh gr ft ?_)
    rcases hr with z | z
    · exact absurd z e
    · exact z
end
end
section
/-! the component's run -/
theorem ll_ix {A i H : Nat} (h : 4 ≤ i + H) : nI A * 32 + nI i + (nI H - 4) = nI (A * 32 + i + H - 4) := by
  have e1 : nI A * 32 = nI (A * 32) := pk_mul A 32
  rw [e1, nI_add]
  have e2 : nI (A * 32 + i) + (nI H - 4) = nI (A * 32 + i + H) - 4 := by
    rw [← nI_add (A * 32 + i) H]
    grind
  rw [e2]
  exact pk_sub (b := 4) (by omega)
theorem ll_vl_d {o c x y : Int32} (h : o < 0 ∨ 5 < o) : ll_vl o c x y = x * c := by
  have z : ∀ k : Int32, ¬ (k < 0 ∨ 5 < k) → o ≠ k := fun k hk e => hk (e ▸ h)
  unfold ll_vl
  rw [if_neg (z 0 (by decide)), if_neg (z 1 (by decide)), if_neg (z 2 (by decide)), if_neg (z 3 (by decide)), if_neg (z 4 (by decide)), if_neg (z 5 (by decide))]
theorem ll_sw {post : Int32 → Prop} {V : Prop} {o c x y : Int32} (hv : V) (h : post (ll_vl o c x y)) :
    ((o < 0 → (V ∧ (post (x * c)))) ∧ (¬ o < 0 → (((5 < o → (V ∧ (post (x * c)))) ∧ (¬ 5 < o → (((o = 0 → (post (x + y))) ∧ (¬ o = 0 → (((o = 1 → (post (x - y))) ∧ (¬ o = 1 → (((o = 2 → (post (x * y))) ∧ (¬ o = 2 → (((o = 3 → (((y ≤ x → (post y)) ∧ (¬ y ≤ x → (post x))))) ∧ (¬ o = 3 → (((o = 4 → (V ∧ (post (x + c)))) ∧ (¬ o = 4 → (((o = 5 → (V ∧ (post c))) ∧ (¬ o = 5 → (True)))))))))))))))))))))))) := by
  refine br_c (fun z => ⟨hv, by rw [ll_vl_d (Or.inl z)] at h; exact h⟩) (fun _ => br_c (fun z => ⟨hv, by rw [ll_vl_d (Or.inr z)] at h; exact h⟩) (fun _ => ?_))
  unfold ll_vl at h
  refine br_c (fun z => by rw [if_pos z] at h; exact h) (fun z => ?_)
  rw [if_neg z] at h
  refine br_c (fun z => by rw [if_pos z] at h; exact h) (fun z => ?_)
  rw [if_neg z] at h
  refine br_c (fun z => by rw [if_pos z] at h; exact h) (fun z => ?_)
  rw [if_neg z] at h
  refine br_c (fun z => ?_) (fun z => ?_)
  · rw [if_pos z] at h
    exact br_c (fun z => by rw [if_pos z] at h; exact h) (fun z => by rw [if_neg z] at h; exact h)
  rw [if_neg z] at h
  refine br_c (fun z => by rw [if_pos z] at h; exact ⟨hv, h⟩) (fun z => ?_)
  rw [if_neg z] at h
  exact br_c (fun z => by rw [if_pos z] at h; exact ⟨hv, h⟩) (fun _ => trivial)
/-- all three parts of statement q at index i lie within -/
def ll_ir (ar sh : Nat → Int32) (q i : Nat) : Prop := ∀ p, p < 3 → ll_a (ar q) p ≤ 2 ∧ 4 ≤ i + ll_h (sh q) p ∧ i + ll_h (sh q) p < 36
theorem ll_ir_of {n lo hi q i : Nat} {ar sh : Nat → Int32} (hI : ll_In n ar sh lo hi) (hq : q < n) (h1 : lo ≤ i) (h2 : i ≤ hi) : ll_ir ar sh q i := by
  intro p hp
  have := hI q hq p hp
  omega
section
variable {fc fr fg : Int32} {op ar sh ct bh gr ft : Nat → Int32}
theorem ll_xSrc {post : Int32 → Prop} {cl ln : Nat → Int32} {q p i : Nat} (hq : q < 4) (hp : p < 3) (hr : ll_ir ar sh q i) (h : post (cl (ll_ad ar sh q p i))) : wpX_source post (fc, fr, fg, cl, op, ar, sh, ct, bh, gr, ft, ln) (nI q) (nI p) (nI i) := by
  have r := hr p hp
  unfold wpX_source
  dsimp only
  refine ll_xA hq (ll_xS hq ?_)
  rw [ll_ix r.2.1]
  refine And.intro (vp_in_nI (by omega) (by decide)) ?_
  rw [nI_clamp (by omega)]
  exact h
theorem ll_xRes {post : Int32 → Prop} {cl ln : Nat → Int32} {q i : Nat} (hq : q < 4) (hr : ll_ir ar sh q i) (h : post (ll_vq op ar sh ct q i cl)) : wpX_result post (fc, fr, fg, cl, op, ar, sh, ct, bh, gr, ft, ln) (nI q) (nI i) := by
  have hv : vp_in (nI q) 4 := vp_in_nI hq (by decide)
  unfold wpX_result
  dsimp only
  refine ll_xSrc (p := 1) hq (by omega) hr (ll_xSrc (p := 2) hq (by omega) hr ?_)
  rw [nI_clamp (by omega : q < 2 ^ 31)]
  exact And.intro hv (nm_e (ll_sw hv h))
theorem ll_xSto {post : SX → Prop} {cl ln : Nat → Int32} {q i : Nat} {v : Int32} (hq : q < 4) (hr : ll_ir ar sh q i) (h : post (fc, fr, fg, upd cl (ll_ad ar sh q 0 i) v, op, ar, sh, ct, bh, gr, ft, ln)) : wpX_store post (fc, fr, fg, cl, op, ar, sh, ct, bh, gr, ft, ln) (nI q) (nI i) v := by
  have r := hr 0 (by omega)
  unfold wpX_store
  dsimp only
  refine ll_xA (p := 0) hq (ll_xS (p := 0) hq ?_)
  rw [ll_ix r.2.1]
  refine And.intro (vp_in_nI (by omega) (by decide)) ?_
  rw [nI_clamp (by omega)]
  exact nm_e h
/-- a statement at an index: its result stored -/
theorem ll_xEx {post : SX → Prop} {cl ln : Nat → Int32} {q i : Nat} (hq : q < 4) (hr : ll_ir ar sh q i) (h : post (fc, fr, fg, ll_ex op ar sh ct q i cl, op, ar, sh, ct, bh, gr, ft, ln)) :
    wpX_result (fun r => wpX_store post (fc, fr, fg, cl, op, ar, sh, ct, bh, gr, ft, ln) (nI q) (nI i) r) (fc, fr, fg, cl, op, ar, sh, ct, bh, gr, ft, ln) (nI q) (nI i) := ll_xRes hq hr (ll_xSto hq hr h)
theorem ll_x83 {post : SX → Prop} {n lo hi s : Nat} {ln : Nat → Int32} (hn : n ≤ 4) (hs : s < n) (hh : hi < 32) (hI : ll_In n ar sh lo hi) :
    ∀ (k i : Nat) (cl : Nat → Int32), i + k = hi + 1 → lo ≤ i → post (fc, fr, fg, ll_co (ll_ex op ar sh ct s) k i cl, op, ar, sh, ct, bh, gr, ft, ln) → wX_runInLanes_83 post (nI s) (nI hi) (k + 1) (nI i) fc fr fg cl op ar sh ct bh gr ft ln := by
  intro k
  induction k with
  | zero =>
    intro i cl hk hl h
    exact br_t (nI_lt (by omega) (by omega)) h
  | succ k ih =>
    intro i cl hk hl h
    refine br_f (nI_nlt (by omega) (by omega)) (ll_xEx (by omega) (ll_ir_of hI hs hl (by omega)) ?_)
    exact nm_r (nI_1 i) (ih (i + 1) _ (by omega) (by omega) h)
theorem ll_x48 {post : SX → Prop} {J : Int32 → Int32 → Int32 → Int32 → (Nat → Int32) → (Nat → Int32) → (Nat → Int32) → (Nat → Int32) → (Nat → Int32) → (Nat → Int32) → (Nat → Int32) → (Nat → Int32) → (Nat → Int32) → Prop} {n lo hi s i : Nat} {ln c0 : Nat → Int32} (hn : n ≤ 4) (hs : s < n) (hh : hi < 32) (hI : ll_In n ar sh lo hi)
    (hf : ∀ d, 1 ≤ d → d < 4 → ll_fd op ar sh s s d = false) (hl : lo ≤ i) (hi4 : i + 3 ≤ hi) (hln : ∀ e, e < 4 → ln e = ll_vq op ar sh ct s (i + e) c0)
    (hJ : J (nI (i + 4)) fc fr fg (ll_co (ll_ex op ar sh ct s) 4 i c0) op ar sh ct bh gr ft ln) :
    ∀ (k j : Nat) (cl : Nat → Int32), j + k = 4 → cl = ll_co (ll_ex op ar sh ct s) j i c0 → wX_runInLanes_48 post J (nI s) (nI hi) (nI i) (k + 1) (nI j) fc fr fg cl op ar sh ct bh gr ft ln := by
  intro k
  induction k with
  | zero =>
    intro j cl hj hc
    have e : j = 4 := by omega
    subst e
    subst hc
    exact br_t (by decide) (nm_r (nI_add i 4) hJ)
  | succ k ih =>
    intro j cl hj hc
    refine br_f (nI_ge (b := 4) (by omega) (by decide)) (And.intro (vp_in_nI (by omega) (by decide)) ?_)
    rw [nI_add i j, nI_clamp (by omega : j < 2 ^ 31)]
    refine ll_xSto (by omega) (ll_ir_of hI hs (by omega) (by omega)) ?_
    refine nm_r (nI_1 j) (ih (j + 1) _ (by omega) ?_)
    rw [ll_co_snoc, hc, hln j (by omega)]
    show _ = upd (ll_co (ll_ex op ar sh ct s) j i c0) (ll_ad ar sh s 0 (i + j)) (ll_vq op ar sh ct s (i + j) (ll_co (ll_ex op ar sh ct s) j i c0))
    rw [ll_lane hI hs hf hl (by omega) c0 j (by omega) (by omega)]
theorem ll_x16 {post : SX → Prop} {J : Int32 → Int32 → Int32 → Int32 → (Nat → Int32) → (Nat → Int32) → (Nat → Int32) → (Nat → Int32) → (Nat → Int32) → (Nat → Int32) → (Nat → Int32) → (Nat → Int32) → (Nat → Int32) → Prop} {n lo hi s i : Nat} {cl : Nat → Int32} (hn : n ≤ 4) (hs : s < n) (hh : hi < 32) (hI : ll_In n ar sh lo hi)
    (hf : ∀ d, 1 ≤ d → d < 4 → ll_fd op ar sh s s d = false) (hl : lo ≤ i) (hi4 : i + 3 ≤ hi)
    (hJ : ∀ ln' : Nat → Int32, J (nI (i + 4)) fc fr fg (ll_co (ll_ex op ar sh ct s) 4 i cl) op ar sh ct bh gr ft ln') :
    ∀ (k j : Nat) (ln : Nat → Int32), j + k = 4 → (∀ e, e < j → ln e = ll_vq op ar sh ct s (i + e) cl) → wX_runInLanes_16 post J (nI s) (nI hi) (nI i) fc fr fg (k + 1) (nI j) cl op ar sh ct bh gr ft ln := by
  intro k
  induction k with
  | zero =>
    intro j ln hj hc
    have e : j = 4 := by omega
    subst e
    exact br_t (by decide) (Exists.intro 5 (ll_x48 hn hs hh hI hf hl hi4 hc (hJ ln) 4 0 cl (by omega) rfl))
  | succ k ih =>
    intro j ln hj hc
    refine br_f (nI_ge (b := 4) (by omega) (by decide)) ?_
    rw [nI_add i j]
    refine ll_xRes (by omega) (ll_ir_of hI hs (by omega) (by omega)) (And.intro (vp_in_nI (by omega) (by decide)) ?_)
    rw [nI_clamp (by omega : j < 2 ^ 31)]
    refine nm_e (nm_r (nI_1 j) (ih (j + 1) _ (by omega) ?_))
    intro e he
    by_cases z : e = j
    · rw [z, pk_us]
    · rw [pk_un z]
      exact hc e (by omega)
theorem ll_p3 (i : Nat) : nI i + 4 - 1 = nI (i + 3) := by
  show nI i + nI 4 - 1 = _
  rw [nI_add]
  exact nI_pred (i + 3)
theorem ll_x3 {post : SX → Prop} {n lo hi s : Nat} (hn : n ≤ 4) (hs : s < n) (hh : hi < 32) (hI : ll_In n ar sh lo hi) (hf : ∀ d, 1 ≤ d → d < 4 → ll_fd op ar sh s s d = false) :
    ∀ (m k i : Nat) (cl ln : Nat → Int32), k < m → i + k = hi + 1 → lo ≤ i → (∀ ln' : Nat → Int32, post (fc, fr, fg, ll_co (ll_ex op ar sh ct s) k i cl, op, ar, sh, ct, bh, gr, ft, ln')) → wX_runInLanes_3 post (nI s) (nI hi) m (nI i) fc fr fg cl op ar sh ct bh gr ft ln := by
  intro m
  induction m with
  | zero => intro k i cl ln hk; omega
  | succ m ih =>
    intro k i cl ln hk he hl h
    by_cases h4 : k < 4
    · refine br_t ?_ (Exists.intro (k + 1) (ll_x83 hn hs hh hI k i cl he hl (h ln)))
      rw [ll_p3]
      exact nI_lt (by omega) (by omega)
    · refine br_f ?_ (Exists.intro 5 (ll_x16 hn hs hh hI hf hl (by omega) (fun ln' => ?_) 4 0 ln (by omega) (fun e z => absurd z (Nat.not_lt_zero _))))
      · rw [ll_p3]
        exact nI_nlt (by omega) (by omega)
      · refine ih (k - 4) (i + 4) _ ln' (by omega) (by omega) (by omega) ?_
        rw [← ll_co_add, show 4 + (k - 4) = k by omega]
        exact h
theorem ll_xRL {post : SX → Prop} {n lo hi s k : Nat} {cl ln : Nat → Int32} (hn : n ≤ 4) (hs : s < n) (hh : hi < 32) (hI : ll_In n ar sh lo hi) (hf : ∀ d, 1 ≤ d → d < 4 → ll_fd op ar sh s s d = false) (hk : lo + k = hi + 1)
    (h : ∀ ln' : Nat → Int32, post (fc, fr, fg, ll_co (ll_ex op ar sh ct s) k lo cl, op, ar, sh, ct, bh, gr, ft, ln')) : wpX_runInLanes post (fc, fr, fg, cl, op, ar, sh, ct, bh, gr, ft, ln) (nI s) (nI lo) (nI hi) :=
  Exists.intro (k + 1) (ll_x3 hn hs hh hI hf (k + 1) k lo cl ln (by omega) hk (Nat.le_refl _) h)
theorem ll_x12 {post : SX → Prop} {J : Int32 → Int32 → Int32 → Int32 → (Nat → Int32) → (Nat → Int32) → (Nat → Int32) → (Nat → Int32) → (Nat → Int32) → (Nat → Int32) → (Nat → Int32) → (Nat → Int32) → (Nat → Int32) → Prop} {n lo hi i : Nat} {set : Int32} {ln : Nat → Int32} (hn : n ≤ 4) (hI : ll_In n ar sh lo hi) (h1 : lo ≤ i) (h2 : i ≤ hi) :
    ∀ (m q : Nat) (cl : Nat → Int32), q + m = n → J (nI (i + 1)) (nI n) fr fg (ll_xs (ll_ex op ar sh ct) (ll_row (bt set) i m q) cl) op ar sh ct bh gr ft ln → wX_runPlain_12 post J set (nI hi) (nI i) (m + 1) (nI q) (nI n) fr fg cl op ar sh ct bh gr ft ln := by
  intro m
  induction m with
  | zero =>
    intro q cl hq hJ
    have e : q = n := by omega
    subst e
    exact br_t (nI_le (Nat.le_refl _) (by omega)) (nm_r (nI_1 i) hJ)
  | succ m ih =>
    intro q cl hq hJ
    rw [ll_row] at hJ
    refine br_f (nI_ge (by omega) (by omega)) ?_
    by_cases e : bt set q = true
    · rw [if_pos e] at hJ
      refine br_t ((ll_bit1 (by omega)).mpr e) (ll_xEx (by omega) (ll_ir_of hI (by omega) h1 h2) ?_)
      exact nm_r (nI_1 q) (ih (q + 1) _ (by omega) hJ)
    · rw [if_neg e] at hJ
      exact br_f (fun z => e ((ll_bit1 (by omega)).mp z)) (nm_r (nI_1 q) (ih (q + 1) cl (by omega) hJ))
theorem ll_xp3 {post : SX → Prop} {n lo hi : Nat} {set : Int32} {ln : Nat → Int32} (hn : n ≤ 4) (hh : hi < 32) (hI : ll_In n ar sh lo hi) :
    ∀ (k i : Nat) (cl : Nat → Int32), i + k = hi + 1 → lo ≤ i → post (nI n, fr, fg, ll_xs (ll_ex op ar sh ct) (ll_gr (bt set) n k i) cl, op, ar, sh, ct, bh, gr, ft, ln) → wX_runPlain_3 post set (nI hi) (k + 1) (nI i) (nI n) fr fg cl op ar sh ct bh gr ft ln := by
  intro k
  induction k with
  | zero =>
    intro i cl hk hl h
    exact br_t (nI_lt (by omega) (by omega)) h
  | succ k ih =>
    intro i cl hk hl h
    rw [ll_gr, ll_xs_app] at h
    exact br_f (nI_nlt (by omega) (by omega)) (Exists.intro (n + 1) (ll_x12 hn hI hl (by omega) n 0 cl (by omega) (ih (i + 1) _ (by omega) (by omega) h)))
theorem ll_xRP {post : SX → Prop} {n lo hi k : Nat} {set : Int32} {cl ln : Nat → Int32} (hn : n ≤ 4) (hh : hi < 32) (hI : ll_In n ar sh lo hi) (hk : lo + k = hi + 1)
    (h : post (nI n, fr, fg, ll_xs (ll_ex op ar sh ct) (ll_gr (bt set) n k lo) cl, op, ar, sh, ct, bh, gr, ft, ln)) : wpX_runPlain post (nI n, fr, fg, cl, op, ar, sh, ct, bh, gr, ft, ln) set (nI lo) (nI hi) :=
  Exists.intro (k + 1) (ll_xp3 hn hh hI k lo cl hk (Nat.le_refl _) h)
/-- the groups one behind the other give the plain loop's cells -/
theorem ll_x73 {post : Int32 → SX → Prop} {n lo hi k G : Nat} {F : Nat → Int32} (hn : n ≤ 4) (hh : hi < 32) (hlh : lo ≤ hi) (hI : ll_In n ar sh lo hi) (hk : lo + k = hi + 1) (hG : G ≤ 4) (hg : ∀ g, g < G → ll_gok n op ar sh gr ft g) (hall : ∀ t, t < n → ll_pl gr G t = true)
    (h : ∀ ln' : Nat → Int32, post (nI (n * k)) (nI n, fr, nI G, F, op, ar, sh, ct, bh, gr, ft, ln')) :
    ∀ (m g : Nat) (cl ln : Nat → Int32), g + m = G → F = ll_xs (ll_ex op ar sh ct) (ll_gr (fun t => !ll_pl gr g t) n k lo) cl → wX_run_73 post (nI lo) (nI hi) (m + 1) (nI g) (nI n) fr (nI G) cl op ar sh ct bh gr ft ln := by
  intro m
  induction m with
  | zero =>
    intro g cl ln hgm hF
    have e : g = G := by omega
    subst e
    rw [ll_gr_none (fun t ht => by rw [hall t ht]; rfl)] at hF
    have hF' : F = cl := hF
    subst hF'
    refine br_t (nI_le (Nat.le_refl _) (by omega)) ?_
    rw [pk_sub hlh, nI_1, pk_mul, show hi - lo + 1 = k by omega]
    exact h ln
  | succ m ih =>
    intro g cl ln hgm hF
    have hv : vp_in (nI g) 4 := vp_in_nI (by omega) (by decide)
    obtain ⟨g1, g2, g3⟩ := hg g (by omega)
    have st := ll_step (ct := ct) (P := fun t => !ll_pl gr g t) (G := bt (gr g)) hI (fun s hs hb => by rw [g1 s hs hb]; rfl) (fun r s hr hs hp hb hb2 => g2 r s hr hs (by simpa using hp) hb hb2) k lo (Nat.le_refl _) (by omega) cl
    rw [ll_gr_congr (P := fun t => (fun t => !ll_pl gr g t) t && !bt (gr g) t) (Q := fun t => !ll_pl gr (g + 1) t) (fun t _ => by show (!ll_pl gr g t && !bt (gr g) t) = !(ll_pl gr g t || bt (gr g) t); rw [Bool.not_or])] at st
    refine br_f (nI_ge (by omega) (by omega)) (And.intro hv ?_)
    rw [nI_clamp (by omega : g < 2 ^ 31)]
    refine ll_xL (fun l hl hj hl3 => And.intro hv ?_)
    by_cases e : ft g = 0
    · refine br_t e (And.intro hv (ll_xRP hn hh hI hk ?_))
      exact nm_r (nI_1 g) (ih (g + 1) _ ln (by omega) (hF.trans st))
    · rcases g3 with z | ⟨s, hs, hb, hd⟩
      · exact absurd z e
      · have els : l = s := by
          rcases Nat.lt_trichotomy l s with z | z | z
          · have := hl3 (by omega)
            rw [hb l (by omega)] at this
            exact of_decide_eq_true this
          · exact z
          · have := hj s z
            rw [hb s hs] at this
            exact absurd rfl (of_decide_eq_false this)
        subst els
        refine br_f e (ll_xRL hn hs hh hI hd hk (fun ln' => ?_))
        refine nm_r (nI_1 g) (ih (g + 1) _ ln' (by omega) ?_)
        rw [hF, st, ll_gr_congr (P := bt (gr g)) hb, ll_gr_one hs]
end
end
section
/-! the checks ahead of a run, both sides; the component's run whole -/
/-- statement q: both ends, moved by each shift, lie within -/
def ll_ck (sh : Nat → Int32) (lo hi q : Nat) : Prop := ∀ p, p < 3 → (4 ≤ lo + ll_h (sh q) p ∧ lo + ll_h (sh q) p < 36) ∧ (4 ≤ hi + ll_h (sh q) p ∧ hi + ll_h (sh q) p < 36)
def ll_o1 (sh : Nat → Int32) (q i : Nat) : Prop := ∀ p, p < 3 → 4 ≤ i + ll_h (sh q) p ∧ i + ll_h (sh q) p < 36
theorem ll_In_of {n lo hi : Nat} {ar sh : Nat → Int32} (hB : ll_B n ar sh) (h : ∀ q, q < n → ll_ck sh lo hi q) : ll_In n ar sh lo hi := by
  intro q hq p hp
  have b := hB q hq p hp
  have c := h q hq p hp
  exact ⟨b.1, b.2, c.1.1, c.2.2⟩
theorem ll_mv {i H : Nat} : nI i + (nI H - 4) = nI (i + H) - 4 := by
  rw [← nI_add]
  grind
theorem ll_mvI {i H : Nat} (h1 : i < 32) (h2 : H < 16) : (nI i + (nI H - 4)).toInt = (i : Int) + H - 4 := by
  rw [ll_mv]
  have := pk_sub_toInt (a := i + H) (b := 4) (by omega) (by omega)
  rw [show (nI 4 : Int32) = 4 from rfl] at this
  rw [this]
  omega
theorem ll_lt0 {i H : Nat} (h1 : i < 32) (h2 : H < 16) : nI i + (nI H - 4) < 0 ↔ i + H < 4 := by
  rw [Int32.lt_iff_toInt_lt, ll_mvI h1 h2, show (0 : Int32).toInt = 0 from by decide]
  omega
theorem ll_lt32 {i H : Nat} (h1 : i < 32) (h2 : H < 16) : nI i + (nI H - 4) < 32 ↔ i + H < 36 := by
  rw [Int32.lt_iff_toInt_lt, ll_mvI h1 h2, show (32 : Int32).toInt = 32 from by decide]
  omega
theorem ll_le31 {i H : Nat} (h1 : i < 32) (h2 : H < 16) : nI i + (nI H - 4) ≤ 31 ↔ i + H < 36 := by
  rw [Int32.le_iff_toInt_le, ll_mvI h1 h2, show (31 : Int32).toInt = 31 from by decide]
  omega
section
variable {fr fg : Int32} {cl op ar sh ct bh gr ft ln : Nat → Int32}
theorem ll_xQ_l {post : Int32 → Prop} {fc : Int32} {q i : Nat} (hq : q < 4) (hi : i < 32) (h0 : ll_o1 sh q i → post 0) (h1 : ¬ ll_o1 sh q i → post 1) :
    ∀ (m p : Nat), p + m = 3 → (∀ x, x < p → 4 ≤ i + ll_h (sh q) x ∧ i + ll_h (sh q) x < 36) → wX_outside_2 post (nI q) (nI i) fc fr fg cl op ar sh ct bh gr ft ln (m + 1) (nI p) := by
  intro m
  induction m with
  | zero =>
    intro p hp hv
    have e : p = 3 := by omega
    subst e
    exact br_t (by decide) (h0 hv)
  | succ m ih =>
    intro p hp hv
    have hh := ll_h_lt (sh q) p
    refine br_f (nI_ge (b := 3) (by omega) (by decide)) (ll_xS hq (nm_e ?_))
    refine br_c (fun z => h1 (fun ho => ?_)) (fun z => br_c (fun z2 => nm_r (nI_1 p) (ih (p + 1) (by omega) (lt_s hv ?_))) (fun z2 => h1 (fun ho => ?_)))
    · have := ho p (by omega)
      rw [ll_lt0 hi hh] at z
      omega
    · rw [ll_lt0 hi hh] at z
      rw [ll_lt32 hi hh] at z2
      exact ⟨by omega, z2⟩
    · have := ho p (by omega)
      rw [ll_lt32 hi hh] at z2
      omega
theorem ll_xQ {post : Int32 → Prop} {fc : Int32} {q i : Nat} (hq : q < 4) (hi : i < 32) (h0 : ll_o1 sh q i → post 0) (h1 : ¬ ll_o1 sh q i → post 1) : wpX_outside post (fc, fr, fg, cl, op, ar, sh, ct, bh, gr, ft, ln) (nI q) (nI i) :=
  Exists.intro 4 (ll_xQ_l hq hi h0 h1 3 0 (by omega) (fun j hj => absurd hj (Nat.not_lt_zero _)))
theorem ll_x25 {post : Int32 → SX → Prop} {n lo hi : Nat} (hn : n ≤ 4) (hl : lo < 32) (hh : hi < 32)
    (hT : (∀ q, q < n → ll_ck sh lo hi q) → ∀ m, wX_run_25 post (nI lo) (nI hi) (nI n) fr fg cl op ar sh ct bh gr ft ln (m + 1) (nI n))
    (hF : ¬ (∀ q, q < n → ll_ck sh lo hi q) → post (-2) (nI n, fr, fg, cl, op, ar, sh, ct, bh, gr, ft, ln)) :
    ∀ (m s : Nat), s + m = n → (∀ q, q < s → ll_ck sh lo hi q) → wX_run_25 post (nI lo) (nI hi) (nI n) fr fg cl op ar sh ct bh gr ft ln (m + 1) (nI s) := by
  intro m
  induction m with
  | zero =>
    intro s hs hv
    have e : s = n := by omega
    subst e
    exact hT hv 0
  | succ m ih =>
    intro s hs hv
    refine br_f (nI_ge (by omega) (by omega)) (ll_xQ (by omega) hl (fun o1 => br_t rfl (ll_xQ (by omega) hh (fun o2 => br_t rfl (nm_r (nI_1 s) (ih (s + 1) (by omega) (lt_s hv (fun p hp => ⟨o1 p hp, o2 p hp⟩))))) (fun o2 => br_f (by decide) (hF (fun ha => o2 (fun p hp => (ha s (by omega) p hp).2)))))) (fun o1 => br_f (by decide) (hF (fun ha => o1 (fun p hp => (ha s (by omega) p hp).1)))))
theorem ll_xRun {post : Int32 → SX → Prop} {n lo hi : Nat} (hn : n ≤ 4) (hB : ll_B n ar sh) (hr : fr = 0 ∨ ll_OK n op ar sh gr ft fg) (hl : lo < 32) (hh : hi < 32)
    (hF : ¬ (∀ q, q < n → ll_ck sh lo hi q) → post (-2) (nI n, fr, fg, cl, op, ar, sh, ct, bh, gr, ft, ln))
    (hZ : (∀ q, q < n → ll_ck sh lo hi q) → hi < lo → post 0 (nI n, fr, fg, cl, op, ar, sh, ct, bh, gr, ft, ln))
    (hG : (∀ q, q < n → ll_ck sh lo hi q) → lo ≤ hi → ∀ (fr' fg' : Int32) (bh' gr' ft' ln' : Nat → Int32), ll_OK n op ar sh gr' ft' fg' → post (nI (n * (hi + 1 - lo))) (nI n, fr', fg', ll_xs (ll_ex op ar sh ct) (ll_gr (fun _ => true) n (hi + 1 - lo) lo) cl, op, ar, sh, ct, bh', gr', ft', ln')) :
    wpX_run post (nI n, fr, fg, cl, op, ar, sh, ct, bh, gr, ft, ln) (nI lo) (nI hi) := by
  unfold wpX_run
  dsimp only
  refine br_f (nI_pos (by omega)) (br_f (nI_ge (b := 32) (by omega) (by decide)) (br_f (nI_pos (by omega)) (br_t (nI_lt (b := 32) (by omega) (by decide)) (Exists.intro (n + 1) (ll_x25 hn hl hh (fun hc m => ?_) hF n 0 (by omega) (fun j hj => absurd hj (Nat.not_lt_zero _)))))))
  refine br_t (nI_le (Nat.le_refl _) (by omega)) ?_
  by_cases e : lo ≤ hi
  · refine br_t (nI_le e (by omega)) (ll_xPlan hn hB hr (fun fr' fg' bh' gr' ft' hok => ?_))
    have hok2 := hok
    obtain ⟨G, hG4, rfl, hg, hall⟩ := hok2
    refine Exists.intro (G + 1) (ll_x73 (k := hi + 1 - lo) (F := ll_xs (ll_ex op ar sh ct) (ll_gr (fun _ => true) n (hi + 1 - lo) lo) cl) hn hh e (ll_In_of hB hc) (by omega) hG4 hg hall (fun ln' => hG hc e fr' (nI G) bh' gr' ft' ln' hok) G 0 cl ln (by omega) rfl)
  · exact br_f (nI_ge (by omega) (by omega)) (hZ hc (by omega))
end
/-! the reference's run -/
/-- the reference's body is the component's, unpacked -/
def ll_Y (n : Nat) (ar sh va vs : Nat → Int32) : Prop := ∀ q, q < n → ∀ p, p < 3 → va (q * 3 + p) = nI (ll_a (ar q) p) ∧ vs (q * 3 + p) = nI (ll_h (sh q) p) - 4
theorem ll_ysw {Q : Int32 → Prop} {o c x y : Int32} (h : Q (ll_vl o c x y)) :
    ((o = 0 → Q (x + y)) ∧ (¬ o = 0 → ((o = 1 → Q (x - y)) ∧ (¬ o = 1 → ((o = 2 → Q (x * y)) ∧ (¬ o = 2 → ((o = 3 → ((y ≤ x → Q y) ∧ (¬ y ≤ x → Q x))) ∧ (¬ o = 3 → ((o = 4 → Q (x + c)) ∧ (¬ o = 4 → ((o = 5 → Q c) ∧ (¬ o = 5 → Q (x * c))))))))))))) := by
  unfold ll_vl at h
  refine br_c (fun z => by rw [if_pos z] at h; exact h) (fun z => ?_)
  rw [if_neg z] at h
  refine br_c (fun z => by rw [if_pos z] at h; exact h) (fun z => ?_)
  rw [if_neg z] at h
  refine br_c (fun z => by rw [if_pos z] at h; exact h) (fun z => ?_)
  rw [if_neg z] at h
  refine br_c (fun z => ?_) (fun z => ?_)
  · rw [if_pos z] at h
    exact br_c (fun z => by rw [if_pos z] at h; exact h) (fun z => by rw [if_neg z] at h; exact h)
  rw [if_neg z] at h
  refine br_c (fun z => by rw [if_pos z] at h; exact h) (fun z => ?_)
  rw [if_neg z] at h
  exact br_c (fun z => by rw [if_pos z] at h; exact h) (fun z => by rw [if_neg z] at h; exact h)
section
variable {ar sh op ct va vs : Nat → Int32}
theorem ll_yEx {post : SY → Prop} {n q i : Nat} {cl : Nat → Int32} (hn : n ≤ 4) (hq : q < n) (hY : ll_Y n ar sh va vs) (hr : ll_ir ar sh q i) (h : post (nI n, op, ct, va, vs, ll_ex op ar sh ct q i cl)) : wpY_carryOut post (nI n, op, ct, va, vs, cl) (nI q) (nI i) := by
  have r0 := hr 0 (by omega)
  have r1 := hr 1 (by omega)
  have r2 := hr 2 (by omega)
  have y0 := hY q hq 0 (by omega)
  have y1 := hY q hq 1 (by omega)
  have y2 := hY q hq 2 (by omega)
  rw [Nat.add_zero] at y0
  have e0 : nI q * 3 = nI (q * 3) := pk_mul q 3
  have e1 : nI (q * 3) + 1 = nI (q * 3 + 1) := nI_1 _
  have e2 : nI (q * 3) + 2 = nI (q * 3 + 2) := nI_add _ 2
  have c0 : (nI (q * 3)).toNatClampNeg = q * 3 := nI_clamp (by omega)
  have c1 : (nI (q * 3 + 1)).toNatClampNeg = q * 3 + 1 := nI_clamp (by omega)
  have c2 : (nI (q * 3 + 2)).toNatClampNeg = q * 3 + 2 := nI_clamp (by omega)
  have cq : (nI q).toNatClampNeg = q := nI_clamp (by omega)
  have v0 : vp_in (nI (q * 3)) 12 := vp_in_nI (by omega) (by decide)
  have v1 : vp_in (nI (q * 3 + 1)) 12 := vp_in_nI (by omega) (by decide)
  have v2 : vp_in (nI (q * 3 + 2)) 12 := vp_in_nI (by omega) (by decide)
  have vq : vp_in (nI q) 4 := vp_in_nI (by omega) (by decide)
  have a0 : nI (ll_a (ar q) 0) * 32 + nI i + (nI (ll_h (sh q) 0) - 4) = nI (ll_ad ar sh q 0 i) := ll_ix r0.2.1
  have a1 : nI (ll_a (ar q) 1) * 32 + nI i + (nI (ll_h (sh q) 1) - 4) = nI (ll_ad ar sh q 1 i) := ll_ix r1.2.1
  have a2 : nI (ll_a (ar q) 2) * 32 + nI i + (nI (ll_h (sh q) 2) - 4) = nI (ll_ad ar sh q 2 i) := ll_ix r2.2.1
  have l0 : ll_ad ar sh q 0 i < 96 := by unfold ll_ad; omega
  have l1 : ll_ad ar sh q 1 i < 96 := by unfold ll_ad; omega
  have l2 : ll_ad ar sh q 2 i < 96 := by unfold ll_ad; omega
  have d0 : (nI (ll_ad ar sh q 0 i)).toNatClampNeg = ll_ad ar sh q 0 i := nI_clamp (by omega)
  have d1 : (nI (ll_ad ar sh q 1 i)).toNatClampNeg = ll_ad ar sh q 1 i := nI_clamp (by omega)
  have d2 : (nI (ll_ad ar sh q 2 i)).toNatClampNeg = ll_ad ar sh q 2 i := nI_clamp (by omega)
  unfold wpY_carryOut
  dsimp only
  simp only [e0, e1, e2, c0, c1, c2, cq, y0.1, y0.2, y1.1, y1.2, y2.1, y2.2, a0, a1, a2, d1, d2]
  refine And.intro v0 (And.intro v0 (nm_e (And.intro v1 (And.intro v1 (And.intro (vp_in_nI l1 (by decide)) (nm_e (And.intro v2 (And.intro v2 (And.intro (vp_in_nI l2 (by decide)) (nm_e (And.intro vq (nm_e (And.intro vq (nm_e ?_))))))))))))))
  rw [d0]
  exact ll_ysw (Q := fun v => vp_in (nI (ll_ad ar sh q 0 i)) 96 ∧ ∀ c', c' = upd cl (ll_ad ar sh q 0 i) v → post (nI n, op, ct, va, vs, c')) (And.intro (vp_in_nI l0 (by decide)) (nm_e h))
theorem ll_y84 {post : Int32 → SY → Prop} {J : Int32 → Int32 → Int32 → (Nat → Int32) → (Nat → Int32) → (Nat → Int32) → (Nat → Int32) → (Nat → Int32) → Prop} {n lo hi i : Nat} (hn : n ≤ 4) (hY : ll_Y n ar sh va vs) (hI : ll_In n ar sh lo hi) (h1 : lo ≤ i) (h2 : i ≤ hi) :
    ∀ (m q c : Nat) (cl : Nat → Int32), q + m = n → J (nI (c + m)) (nI (i + 1)) (nI n) op ct va vs (ll_xs (ll_ex op ar sh ct) (ll_row (fun _ => true) i m q) cl) → wY_run_84 post J (nI hi) (nI i) (m + 1) (nI c) (nI q) (nI n) op ct va vs cl := by
  intro m
  induction m with
  | zero =>
    intro q c cl hq hJ
    have e : q = n := by omega
    subst e
    exact br_t (nI_le (Nat.le_refl _) (by omega)) (nm_r (nI_1 i) hJ)
  | succ m ih =>
    intro q c cl hq hJ
    rw [ll_row, if_pos rfl, show c + (m + 1) = (c + 1) + m by omega] at hJ
    refine br_f (nI_ge (by omega) (by omega)) (ll_yEx hn (by omega) hY (ll_ir_of hI (by omega) h1 h2) ?_)
    exact nm_r (nI_1 c) (nm_r (nI_1 q) (ih (q + 1) (c + 1) _ (by omega) hJ))
theorem ll_y75 {post : Int32 → SY → Prop} {n lo hi : Nat} (hn : n ≤ 4) (hh : hi < 32) (hY : ll_Y n ar sh va vs) (hI : ll_In n ar sh lo hi) :
    ∀ (k i c : Nat) (cl : Nat → Int32), (i + k = hi + 1 ∨ k = 0 ∧ hi < i) → lo ≤ i → i < 64 → post (nI (c + n * k)) (nI n, op, ct, va, vs, ll_xs (ll_ex op ar sh ct) (ll_gr (fun _ => true) n k i) cl) → wY_run_75 post (nI hi) (k + 1) (nI c) (nI i) (nI n) op ct va vs cl := by
  intro k
  induction k with
  | zero =>
    intro i c cl hk hl h6 h
    exact br_t (nI_lt (by omega) (by omega)) h
  | succ k ih =>
    intro i c cl hk hl h6 h
    rw [ll_gr, ll_xs_app, show c + n * (k + 1) = (c + n) + n * k by rw [Nat.mul_succ]; omega] at h
    exact br_f (nI_nlt (by omega) (by omega)) (Exists.intro (n + 1) (ll_y84 hn hY hI hl (by omega) n 0 c cl (by omega) (ih (i + 1) (c + n) _ (by omega) (by omega) (by omega) h)))
theorem ll_yC0 {post : Int32 → Prop} {v : SY} {x : Int32} (h0 : ¬ x < 0) (h1 : x ≤ 31) (h : post 0) : wpY_badCell post v x := by
  obtain ⟨a, b, c, d, e, f⟩ := v
  exact br_f h0 (br_t h1 h)
theorem ll_yC1 {post : Int32 → Prop} {v : SY} {x : Int32} (hx : x < 0 ∨ ¬ x ≤ 31) (h : post 1) : wpY_badCell post v x := by
  obtain ⟨a, b, c, d, e, f⟩ := v
  refine br_c (fun _ => h) (fun hn => br_f ?_ h)
  rcases hx with hx | hx
  · exact absurd hx hn
  · exact hx
theorem ll_yC {post : Int32 → Prop} {v : SY} {i H : Nat} (hi : i < 32) (hH : H < 16) (h0 : 4 ≤ i + H → i + H < 36 → post 0) (h1 : ¬ (4 ≤ i + H ∧ i + H < 36) → post 1) : wpY_badCell post v (nI i + (nI H - 4)) := by
  by_cases e1 : i + H < 4
  · exact ll_yC1 (Or.inl ((ll_lt0 hi hH).mpr e1)) (h1 (by omega))
  · by_cases e2 : i + H < 36
    · exact ll_yC0 (fun z => e1 ((ll_lt0 hi hH).mp z)) ((ll_le31 hi hH).mpr e2) (h0 (by omega) e2)
    · exact ll_yC1 (Or.inr (fun z => e2 ((ll_le31 hi hH).mp z))) (h1 (by omega))
theorem ll_y21 {post : Int32 → SY → Prop} {n lo hi : Nat} {cl : Nat → Int32} (hn : n ≤ 4) (hl : lo < 32) (hh : hi < 32) (hY : ll_Y n ar sh va vs)
    (hT : (∀ q, q < n → ll_ck sh lo hi q) → ∃ m, wY_run_75 post (nI hi) m 0 (nI lo) (nI n) op ct va vs cl)
    (hF : ¬ (∀ q, q < n → ll_ck sh lo hi q) → post (-2) (nI n, op, ct, va, vs, cl)) :
    ∀ (m k : Nat), k + m = n * 3 → (∀ q p, q < n → p < 3 → q * 3 + p < k → (4 ≤ lo + ll_h (sh q) p ∧ lo + ll_h (sh q) p < 36) ∧ (4 ≤ hi + ll_h (sh q) p ∧ hi + ll_h (sh q) p < 36)) → wY_run_21 post (nI lo) (nI hi) (nI n) op ct va vs cl (m + 1) (nI k) := by
  intro m
  have e3 : nI n * 3 = nI (n * 3) := pk_mul n 3
  induction m with
  | zero =>
    intro k hk hv
    refine br_t ?_ (hT (fun q hq p hp => hv q p hq hp (by omega)))
    rw [e3]
    exact nI_le (by omega) (by omega)
  | succ m ih =>
    intro k hk hv
    have hvk : vp_in (nI k) 12 := vp_in_nI (by omega) (by decide)
    have hq : k / 3 < n := by omega
    have hp : k % 3 < 3 := by omega
    have hkk : k / 3 * 3 + k % 3 = k := by omega
    have y := (hY (k / 3) hq (k % 3) hp).2
    rw [hkk] at y
    have h16 := ll_h_lt (sh (k / 3)) (k % 3)
    refine br_f ?_ (And.intro hvk ?_)
    · rw [e3]
      exact nI_ge (by omega) (by omega)
    rw [nI_clamp (by omega : k < 2 ^ 31), y]
    refine ll_yC hl h16 (fun a1 a2 => br_t rfl (And.intro hvk (ll_yC hh h16 (fun b1 b2 => br_t rfl (nm_r (nI_1 k) (ih (k + 1) (by omega) (fun q p hq' hp' hqp => ?_)))) (fun z => br_f (by decide) (hF (fun ha => z ((ha (k / 3) hq (k % 3) hp).2))))))) (fun z => br_f (by decide) (hF (fun ha => z ((ha (k / 3) hq (k % 3) hp).1))))
    by_cases e : q * 3 + p < k
    · exact hv q p hq' hp' e
    · have eq : q = k / 3 := by omega
      have ep : p = k % 3 := by omega
      subst eq
      subst ep
      exact ⟨⟨a1, a2⟩, b1, b2⟩
theorem ll_yRun {post : Int32 → SY → Prop} {n lo hi : Nat} {cl : Nat → Int32} (hn : n ≤ 4) (hB : ll_B n ar sh) (hl : lo < 32) (hh : hi < 32) (hY : ll_Y n ar sh va vs)
    (hF : ¬ (∀ q, q < n → ll_ck sh lo hi q) → post (-2) (nI n, op, ct, va, vs, cl))
    (hG : (∀ q, q < n → ll_ck sh lo hi q) → post (nI (n * (hi + 1 - lo))) (nI n, op, ct, va, vs, ll_xs (ll_ex op ar sh ct) (ll_gr (fun _ => true) n (hi + 1 - lo) lo) cl)) :
    wpY_run post (nI n, op, ct, va, vs, cl) (nI lo) (nI hi) := by
  unfold wpY_run
  dsimp only
  refine ll_yC0 (nI_pos (by omega)) (nI_le (b := 31) (by omega) (by decide)) (br_t rfl (ll_yC0 (nI_pos (by omega)) (nI_le (b := 31) (by omega) (by decide)) (br_t rfl (Exists.intro (n * 3 + 1) (ll_y21 hn hl hh hY (fun hc => Exists.intro (hi + 1 - lo + 1) (ll_y75 hn hh hY (ll_In_of hB hc) (hi + 1 - lo) lo 0 cl (by omega) (Nat.le_refl _) (by omega) ?_)) hF (n * 3) 0 (by omega) (fun q p _ _ z => absurd z (Nat.not_lt_zero _)))))))
  rw [Nat.zero_add]
  exact hG hc
end
end
section
/-! statement and exchange -/
section
variable {fr fg : Int32} {cl op ar sh ct bh gr ft ln : Nat → Int32}
theorem ll_bA {post : Int32 → Prop} {a : Nat} (ha : a < 4) (h0 : a ≤ 2 → post 0) (h1 : ¬ a ≤ 2 → post 1) : wpX_badArray post (nI a) := by
  by_cases e : a ≤ 2
  · exact ll_bA0 (by omega) (h0 e)
  · exact ll_bA1 (Or.inr (nI_le (by omega) (by omega))) (h1 e)
theorem ll_sh4 {H : Nat} (h : H < 16) : (nI H - 4).toInt = (H : Int) - 4 := by
  have := pk_sub_toInt (a := H) (b := 4) (by omega) (by omega)
  rw [show (nI 4 : Int32) = 4 from rfl] at this
  rw [this]
  omega
theorem ll_bS {post : Int32 → Prop} {H : Nat} (h : H < 16) (h0 : H ≤ 8 → post 0) (h1 : ¬ H ≤ 8 → post 1) : wpX_badShift post (nI H - 4) := by
  have t := ll_sh4 h
  have n1 : ¬ nI H - 4 < (-4) := by
    rw [Int32.lt_iff_toInt_lt, t, show (-4 : Int32).toInt = -4 from by decide]
    omega
  have n2 : nI H - 4 ≤ 4 ↔ H ≤ 8 := by
    rw [Int32.le_iff_toInt_le, t, show (4 : Int32).toInt = 4 from by decide]
    omega
  refine br_f n1 (br_c (fun z => h0 (n2.mp z)) (fun z => h1 (fun y => z (n2.mpr y))))
theorem ll_xs34 {post : Int32 → SX → Prop} {fc v1 v2 v3 v4 : Int32}
    (hT : (∀ p, p < 3 → ll_h v3 p ≤ 8) → ∀ m, wX_statement_34 post v1 v2 v3 v4 fc fr fg cl op ar sh ct bh gr ft ln (m + 1) (nI 3))
    (hF : ¬ (∀ p, p < 3 → ll_h v3 p ≤ 8) → post (-2) (fc, fr, fg, cl, op, ar, sh, ct, bh, gr, ft, ln)) :
    ∀ (m p : Nat), p + m = 3 → (∀ x, x < p → ll_h v3 x ≤ 8) → wX_statement_34 post v1 v2 v3 v4 fc fr fg cl op ar sh ct bh gr ft ln (m + 1) (nI p) := by
  intro m
  induction m with
  | zero =>
    intro p hp hv
    have e : p = 3 := by omega
    subst e
    exact hT hv 0
  | succ m ih =>
    intro p hp hv
    refine br_f (nI_ge (b := 3) (by omega) (by decide)) ?_
    rw [ll_h_e]
    exact ll_bS (ll_h_lt _ _) (fun z => br_t rfl (nm_r (nI_1 p) (ih (p + 1) (by omega) (lt_s hv z)))) (fun z => br_f (by decide) (hF (fun ha => z (ha p (by omega)))))
theorem ll_xs3 {post : Int32 → SX → Prop} {fc v1 v2 v3 v4 : Int32}
    (hT : (∀ p, p < 3 → ll_a v2 p ≤ 2) → ∃ m, wX_statement_34 post v1 v2 v3 v4 fc fr fg cl op ar sh ct bh gr ft ln m 0)
    (hF : ¬ (∀ p, p < 3 → ll_a v2 p ≤ 2) → post (-1) (fc, fr, fg, cl, op, ar, sh, ct, bh, gr, ft, ln)) :
    ∀ (m p : Nat), p + m = 3 → (∀ x, x < p → ll_a v2 x ≤ 2) → wX_statement_3 post v1 v2 v3 v4 fc fr fg cl op ar sh ct bh gr ft ln (m + 1) (nI p) := by
  intro m
  induction m with
  | zero =>
    intro p hp hv
    have e : p = 3 := by omega
    subst e
    exact br_t (by decide) (hT hv)
  | succ m ih =>
    intro p hp hv
    refine br_f (nI_ge (b := 3) (by omega) (by decide)) ?_
    rw [ll_a_e]
    exact ll_bA (ll_a_lt _ _) (fun z => br_t rfl (nm_r (nI_1 p) (ih (p + 1) (by omega) (lt_s hv z)))) (fun z => br_f (by decide) (hF (fun ha => z (ha p (by omega)))))
theorem ll_xSt {post : Int32 → SX → Prop} {n : Nat} {v1 v2 v3 v4 : Int32} (hn : n ≤ 4)
    (h1 : ¬ (∀ p, p < 3 → ll_a v2 p ≤ 2) → post (-1) (nI n, fr, fg, cl, op, ar, sh, ct, bh, gr, ft, ln))
    (h2 : (∀ p, p < 3 → ll_a v2 p ≤ 2) → ¬ (∀ p, p < 3 → ll_h v3 p ≤ 8) → post (-2) (nI n, fr, fg, cl, op, ar, sh, ct, bh, gr, ft, ln))
    (h3 : (∀ p, p < 3 → ll_a v2 p ≤ 2) → (∀ p, p < 3 → ll_h v3 p ≤ 8) → ¬ (¬ v1 < 0 ∧ v1 ≤ 6) → post (-3) (nI n, fr, fg, cl, op, ar, sh, ct, bh, gr, ft, ln))
    (h4 : (∀ p, p < 3 → ll_a v2 p ≤ 2) → (∀ p, p < 3 → ll_h v3 p ≤ 8) → (¬ v1 < 0 ∧ v1 ≤ 6) → n = 4 → post (-4) (nI n, fr, fg, cl, op, ar, sh, ct, bh, gr, ft, ln))
    (h5 : (∀ p, p < 3 → ll_a v2 p ≤ 2) → (∀ p, p < 3 → ll_h v3 p ≤ 8) → (¬ v1 < 0 ∧ v1 ≤ 6) → n < 4 → post (nI n) (nI (n + 1), 0, fg, cl, upd op n v1, upd ar n v2, upd sh n v3, upd ct n v4, bh, gr, ft, ln)) :
    wpX_statement post (nI n, fr, fg, cl, op, ar, sh, ct, bh, gr, ft, ln) v1 v2 v3 v4 := by
  refine Exists.intro 4 (ll_xs3 (fun g1 => Exists.intro 4 (ll_xs34 (fun g2 m => ?_) (h2 g1) 3 0 (by omega) (fun x hx => absurd hx (Nat.not_lt_zero _)))) h1 3 0 (by omega) (fun x hx => absurd hx (Nat.not_lt_zero _)))
  refine br_t (by decide) (br_c (fun z => h3 g1 g2 (fun y => y.1 z)) (fun z => br_c (fun z2 => ?_) (fun z2 => h3 g1 g2 (fun y => z2 y.2))))
  by_cases e : n < 4
  · have hv : vp_in (nI n) 4 := vp_in_nI e (by decide)
    refine br_t (nI_lt (b := 4) e (by decide)) ?_
    rw [nI_clamp (by omega : n < 2 ^ 31)]
    refine And.intro hv (nm_e (And.intro hv (nm_e (And.intro hv (nm_e (And.intro hv (nm_e (nm_r (nI_1 n) ?_))))))))
    rw [nI_pred]
    exact h5 g1 g2 ⟨z, z2⟩ e
  · exact br_f (nI_nlt (b := 4) (by omega) (by omega)) (h4 g1 g2 ⟨z, z2⟩ (by omega))
end
section
variable {ops cts cl : Nat → Int32}
theorem ll_y88 {post : Int32 → SY → Prop} {n : Nat} {v1 v2 v3 v4 : Int32} {va0 vs0 : Nat → Int32} (hn : n < 4)
    (hp : ∀ va vs : Nat → Int32, (∀ x, x < 3 → va (n * 3 + x) = nI (ll_a v2 x) ∧ vs (n * 3 + x) = nI (ll_h v3 x) - 4) → (∀ j, j < n * 3 → va j = va0 j ∧ vs j = vs0 j) → post (nI n) (nI (n + 1), upd ops n v1, upd cts n v4, va, vs, cl)) :
    ∀ (m p : Nat) (va vs : Nat → Int32), p + m = 3 → (∀ x, x < p → va (n * 3 + x) = nI (ll_a v2 x) ∧ vs (n * 3 + x) = nI (ll_h v3 x) - 4) → (∀ j, j < n * 3 → va j = va0 j ∧ vs j = vs0 j) →
    wY_statement_88 post v1 v2 v3 v4 (nI n) (m + 1) (nI p) ops cts va vs cl := by
  intro m
  induction m with
  | zero =>
    intro p va vs hpm h1 h2
    have e : p = 3 := by omega
    subst e
    have hv : vp_in (nI n) 4 := vp_in_nI hn (by decide)
    refine br_t (by decide) ?_
    rw [nI_clamp (by omega : n < 2 ^ 31)]
    refine And.intro hv (nm_e (And.intro hv (nm_e (nm_r (nI_1 n) ?_))))
    rw [nI_pred]
    exact hp va vs h1 h2
  | succ m ih =>
    intro p va vs hpm h1 h2
    have ei : nI n * 3 + nI p = nI (n * 3 + p) := by
      rw [show nI n * 3 = nI (n * 3) from pk_mul n 3, nI_add]
    have hv : vp_in (nI (n * 3 + p)) 12 := vp_in_nI (by omega) (by decide)
    refine br_f (nI_ge (b := 3) (by omega) (by decide)) ?_
    rw [ei, nI_clamp (by omega : n * 3 + p < 2 ^ 31), ll_a_e, ll_h_e]
    refine And.intro hv (nm_e (And.intro hv (nm_e (nm_r (nI_1 p) (ih (p + 1) _ _ (by omega) (fun x hx => ?_) (fun j hj => ?_))))))
    · by_cases e : x = p
      · rw [e, pk_us, pk_us]
        exact ⟨rfl, rfl⟩
      · rw [pk_un (by omega), pk_un (by omega)]
        exact h1 x (by omega)
    · rw [pk_un (by omega), pk_un (by omega)]
      exact h2 j hj
theorem ll_y32 {post : Int32 → SY → Prop} {fs v1 v2 v3 v4 : Int32} {va vs : Nat → Int32}
    (hT : (∀ p, p < 3 → ll_h v3 p ≤ 8) → ∀ m, wY_statement_32 post v1 v2 v3 v4 fs ops cts va vs cl (m + 1) (nI 3))
    (hF : ¬ (∀ p, p < 3 → ll_h v3 p ≤ 8) → post (-2) (fs, ops, cts, va, vs, cl)) :
    ∀ (m p : Nat), p + m = 3 → (∀ x, x < p → ll_h v3 x ≤ 8) → wY_statement_32 post v1 v2 v3 v4 fs ops cts va vs cl (m + 1) (nI p) := by
  intro m
  induction m with
  | zero =>
    intro p hp hv
    have e : p = 3 := by omega
    subst e
    exact hT hv 0
  | succ m ih =>
    intro p hp hv
    have hl := ll_h_lt v3 p
    refine br_f (nI_ge (b := 3) (by omega) (by decide)) ?_
    rw [ll_h_e]
    by_cases e : ll_h v3 p ≤ 8
    · exact br_t (nI_le (b := 8) e (by decide)) (nm_r (nI_1 p) (ih (p + 1) (by omega) (lt_s hv e)))
    · exact br_f (nI_ge (a := 8) (by omega) (by omega)) (hF (fun ha => e (ha p (by omega))))
theorem ll_y3 {post : Int32 → SY → Prop} {fs v1 v2 v3 v4 : Int32} {va vs : Nat → Int32}
    (hT : (∀ p, p < 3 → ll_a v2 p ≤ 2) → ∃ m, wY_statement_32 post v1 v2 v3 v4 fs ops cts va vs cl m 0)
    (hF : ¬ (∀ p, p < 3 → ll_a v2 p ≤ 2) → post (-1) (fs, ops, cts, va, vs, cl)) :
    ∀ (m p : Nat), p + m = 3 → (∀ x, x < p → ll_a v2 x ≤ 2) → wY_statement_3 post v1 v2 v3 v4 fs ops cts va vs cl (m + 1) (nI p) := by
  intro m
  induction m with
  | zero =>
    intro p hp hv
    have e : p = 3 := by omega
    subst e
    exact br_t (by decide) (hT hv)
  | succ m ih =>
    intro p hp hv
    have hl := ll_a_lt v2 p
    refine br_f (nI_ge (b := 3) (by omega) (by decide)) ?_
    rw [ll_a_e]
    by_cases e : ll_a v2 p = 3
    · exact br_t (congrArg nI e) (hF (fun ha => by have := ha p (by omega); omega))
    · exact br_f (fun z => e ((nI_eq (b := 3) (by omega) (by omega)).mp z)) (nm_r (nI_1 p) (ih (p + 1) (by omega) (lt_s hv (by omega))))
theorem ll_ySt {post : Int32 → SY → Prop} {n : Nat} {v1 v2 v3 v4 : Int32} {va vs : Nat → Int32} (hn : n ≤ 4)
    (h1 : ¬ (∀ p, p < 3 → ll_a v2 p ≤ 2) → post (-1) (nI n, ops, cts, va, vs, cl))
    (h2 : (∀ p, p < 3 → ll_a v2 p ≤ 2) → ¬ (∀ p, p < 3 → ll_h v3 p ≤ 8) → post (-2) (nI n, ops, cts, va, vs, cl))
    (h3 : (∀ p, p < 3 → ll_a v2 p ≤ 2) → (∀ p, p < 3 → ll_h v3 p ≤ 8) → ¬ (¬ v1 < 0 ∧ v1 ≤ 6) → post (-3) (nI n, ops, cts, va, vs, cl))
    (h4 : (∀ p, p < 3 → ll_a v2 p ≤ 2) → (∀ p, p < 3 → ll_h v3 p ≤ 8) → (¬ v1 < 0 ∧ v1 ≤ 6) → n = 4 → post (-4) (nI n, ops, cts, va, vs, cl))
    (h5 : (∀ p, p < 3 → ll_a v2 p ≤ 2) → (∀ p, p < 3 → ll_h v3 p ≤ 8) → (¬ v1 < 0 ∧ v1 ≤ 6) → n < 4 → ∀ va' vs' : Nat → Int32, (∀ x, x < 3 → va' (n * 3 + x) = nI (ll_a v2 x) ∧ vs' (n * 3 + x) = nI (ll_h v3 x) - 4) → (∀ j, j < n * 3 → va' j = va j ∧ vs' j = vs j) → post (nI n) (nI (n + 1), upd ops n v1, upd cts n v4, va', vs', cl)) :
    wpY_statement post (nI n, ops, cts, va, vs, cl) v1 v2 v3 v4 := by
  refine Exists.intro 4 (ll_y3 (fun g1 => Exists.intro 4 (ll_y32 (fun g2 m => ?_) (h2 g1) 3 0 (by omega) (fun x hx => absurd hx (Nat.not_lt_zero _)))) h1 3 0 (by omega) (fun x hx => absurd hx (Nat.not_lt_zero _)))
  refine br_t (by decide) (br_c (fun z => h3 g1 g2 (fun y => y.1 z)) (fun z => br_c (fun z2 => ?_) (fun z2 => h3 g1 g2 (fun y => z2 y.2))))
  by_cases e : n < 4
  · exact br_f (fun y => by have := (nI_eq (b := 4) (by omega) (by omega)).mp y; omega) (Exists.intro 4 (ll_y88 e (h5 g1 g2 ⟨z, z2⟩ e) 3 0 va vs (by omega) (fun x hx => absurd hx (Nat.not_lt_zero _)) (fun _ _ => ⟨rfl, rfl⟩)))
  · have e4 : n = 4 := by omega
    exact br_t (congrArg nI e4) (h4 g1 g2 ⟨z, z2⟩ e4)
end
/-! exchange: two statements change places -/
def ll_w (a b q : Nat) : Nat := if q = b then a else if q = a then b else q
theorem ll_w_lt {a b q n : Nat} (ha : a < n) (hb : b < n) (hq : q < n) : ll_w a b q < n := by
  unfold ll_w
  split
  · exact ha
  · split
    · exact hb
    · exact hq
theorem ll_w_upd {f : Nat → Int32} {a b : Nat} (q : Nat) : upd (upd f a (f b)) b (f a) q = f (ll_w a b q) := by
  unfold upd ll_w
  by_cases h1 : q = b
  · rw [if_pos h1, if_pos h1]
  · rw [if_neg h1, if_neg h1]
    by_cases h2 : q = a
    · rw [if_pos h2, if_pos h2]
    · rw [if_neg h2, if_neg h2]
theorem ll_w_step {va va0 : Nat → Int32} {a b p : Nat} (hp : p < 3) (h : ∀ q x, x < 3 → va (q * 3 + x) = va0 ((if x < p then ll_w a b q else q) * 3 + x)) :
    ∀ q x, x < 3 → upd (upd va (a * 3 + p) (va (b * 3 + p))) (b * 3 + p) (va (a * 3 + p)) (q * 3 + x) = va0 ((if x < p + 1 then ll_w a b q else q) * 3 + x) := by
  intro q x hx
  by_cases e : x = p
  · subst e
    have ha := h a x hx
    have hb := h b x hx
    have hq := h q x hx
    rw [if_neg (Nat.lt_irrefl x)] at ha hb hq
    rw [if_pos (by omega : x < x + 1)]
    unfold ll_w
    by_cases h1 : q = b
    · rw [h1, pk_us, if_pos rfl]; exact ha
    · rw [pk_un (by omega), if_neg h1]
      by_cases h2 : q = a
      · rw [h2, pk_us, if_pos rfl]; exact hb
      · rw [pk_un (by omega), if_neg h2]; exact hq
  · rw [pk_un (by omega), pk_un (by omega), h q x hx]
    by_cases h2 : x < p
    · rw [if_pos h2, if_pos (by omega)]
    · rw [if_neg h2, if_neg (by omega)]
theorem ll_y76 {post : Int32 → SY → Prop} {a b : Nat} {fs : Int32} {ops cts cl va0 vs0 : Nat → Int32} (ha : a < 4) (hb : b < 4)
    (hp : ∀ va vs : Nat → Int32, (∀ q x, x < 3 → va (q * 3 + x) = va0 (ll_w a b q * 3 + x)) → (∀ q x, x < 3 → vs (q * 3 + x) = vs0 (ll_w a b q * 3 + x)) → post 0 (fs, ops, cts, va, vs, cl)) :
    ∀ (m p : Nat) (va vs : Nat → Int32), p + m = 3 → (∀ q x, x < 3 → va (q * 3 + x) = va0 ((if x < p then ll_w a b q else q) * 3 + x)) → (∀ q x, x < 3 → vs (q * 3 + x) = vs0 ((if x < p then ll_w a b q else q) * 3 + x)) →
    wY_exchange_76 post (nI a) (nI b) fs (m + 1) (nI p) ops cts va vs cl := by
  intro m
  induction m with
  | zero =>
    intro p va vs hpm h1 h2
    have e : p = 3 := by omega
    subst e
    refine br_t (by decide) (hp va vs (fun q x hx => ?_) (fun q x hx => ?_))
    · rw [h1 q x hx, if_pos hx]
    · rw [h2 q x hx, if_pos hx]
  | succ m ih =>
    intro p va vs hpm h1 h2
    have ea : nI a * 3 + nI p = nI (a * 3 + p) := by rw [show nI a * 3 = nI (a * 3) from pk_mul a 3, nI_add]
    have eb : nI b * 3 + nI p = nI (b * 3 + p) := by rw [show nI b * 3 = nI (b * 3) from pk_mul b 3, nI_add]
    have va' : vp_in (nI (a * 3 + p)) 12 := vp_in_nI (by omega) (by decide)
    have vb' : vp_in (nI (b * 3 + p)) 12 := vp_in_nI (by omega) (by decide)
    refine br_f (nI_ge (b := 3) (by omega) (by decide)) ?_
    rw [ea, eb, nI_clamp (by omega : a * 3 + p < 2 ^ 31), nI_clamp (by omega : b * 3 + p < 2 ^ 31)]
    exact And.intro va' (nm_e (And.intro vb' (And.intro va' (nm_e (And.intro vb' (nm_e (And.intro va' (nm_e (And.intro vb' (And.intro va' (nm_e (And.intro vb' (nm_e (nm_r (nI_1 p) (ih (p + 1) _ _ (by omega) (ll_w_step (by omega) h1) (ll_w_step (by omega) h2))))))))))))))))
end
section
/-! the reference's mustPrecede -/
theorem ll_43 {o : Int32} : 4 ≤ o ↔ 3 < o := by
  rw [Int32.le_iff_toInt_le, Int32.lt_iff_toInt_lt, show (4 : Int32).toInt = 4 from by decide, show (3 : Int32).toInt = 3 from by decide]
  omega
def ll_lk (o : Int32) (p : Nat) : Bool := if p = 0 then true else ll_rd o p
def ll_yc (op ar sh : Nat → Int32) (a b d p r : Nat) : Bool := decide (p = 0 ∨ r = 0) && (ll_lk (op a) p && (ll_lk (op b) r && ll_mt ar sh a p b r d))
def ll_yr (op ar sh : Nat → Int32) (a b d p : Nat) : Bool := ll_yc op ar sh a b d p 0 || (ll_yc op ar sh a b d p 1 || ll_yc op ar sh a b d p 2)
def ll_yt (op ar sh : Nat → Int32) (a b d : Nat) : Bool := ll_yr op ar sh a b d 0 || (ll_yr op ar sh a b d 1 || ll_yr op ar sh a b d 2)
theorem ll_yt_e (op ar sh : Nat → Int32) (a b d : Nat) : ll_yt op ar sh a b d = ll_cf op ar sh a b d := by
  have c : ∀ p r, (p = 0 ∨ r = 0) → ll_yc op ar sh a b d p r = (ll_lk (op a) p && (ll_lk (op b) r && ll_mt ar sh a p b r d)) := by
    intro p r h
    unfold ll_yc
    rw [decide_eq_true h, Bool.true_and]
  have f : ∀ p r, ¬ (p = 0 ∨ r = 0) → ll_yc op ar sh a b d p r = false := by
    intro p r h
    unfold ll_yc
    rw [decide_eq_false h, Bool.false_and]
  have k0 : ∀ o, ll_lk o 0 = true := fun _ => rfl
  have k1 : ∀ o, ll_lk o 1 = ll_rd o 1 := fun _ => rfl
  have k2 : ∀ o, ll_lk o 2 = ll_rd o 2 := fun _ => rfl
  unfold ll_yt ll_yr ll_cf ll_fd ll_sp
  rw [c 0 0 (Or.inl rfl), c 0 1 (Or.inl rfl), c 0 2 (Or.inl rfl), c 1 0 (Or.inr rfl), c 2 0 (Or.inr rfl), f 1 1 (by decide), f 1 2 (by decide), f 2 1 (by decide), f 2 2 (by decide)]
  rw [k0, k0, k1, k1, k2, k2]
  simp only [Bool.true_and, Bool.or_false, Bool.or_assoc]
section
variable {fs : Int32} {op ct va vs cl ar sh : Nat → Int32}
theorem ll_yK {post : Int32 → Prop} {q p : Nat} (hq : q < 4) (hp : p < 3) (h : post (ll_b (ll_lk (op q) p))) : wpY_looks post (fs, op, ct, va, vs, cl) (nI q) (nI p) := by
  have hv : vp_in (nI q) 4 := vp_in_nI hq (by decide)
  have hc : (nI q).toNatClampNeg = q := nI_clamp (by omega)
  unfold wpY_looks
  dsimp only
  rw [hc]
  by_cases e0 : p = 0
  · subst e0
    exact br_t rfl h
  · refine br_f (nI_ne0 (by omega) (by omega)) ?_
    by_cases e1 : p = 1
    · subst e1
      refine br_t rfl (And.intro hv ?_)
      by_cases e : op q = 5
      · exact br_t e (ll_p0 h (by unfold ll_lk ll_rd; rw [if_neg (by decide), if_pos rfl, decide_eq_true e]; rfl))
      · exact br_f e (ll_p1 h (by unfold ll_lk ll_rd; rw [if_neg (by decide), if_pos rfl, decide_eq_false e]; rfl))
    · have e2 : p = 2 := by omega
      subst e2
      refine br_f (by decide) (And.intro hv ?_)
      by_cases e : 3 < op q
      · exact br_t (ll_43.mpr e) (ll_p0 h (by unfold ll_lk ll_rd; rw [if_neg (by decide), if_neg (by decide), decide_eq_true e]; rfl))
      · exact br_f (fun z => e (ll_43.mp z)) (ll_p1 h (by unfold ll_lk ll_rd; rw [if_neg (by decide), if_neg (by decide), decide_eq_false e]; rfl))
theorem ll_y124 {post J K : Int32 → Prop} {a b p r : Nat} {x3 : Int32} {z : Bool} (ha : a < 4) (hb : b < 4) (hp : p < 3) (hr : r < 3)
    (h1 : (ll_lk (op a) p && (ll_lk (op b) r && z)) = true → post 1) (h0 : (ll_lk (op a) p && (ll_lk (op b) r && z)) = false → K (nI (r + 1))) : wY_mustPrecede_124 post J K (nI a) (nI b) x3 (nI p) (nI r) (ll_b z) fs op ct va vs cl := by
  unfold wY_mustPrecede_124
  refine ll_yK ha hp (ll_br (fun e => nm_r (nI_1 r) (h0 (by rw [e, Bool.false_and]))) (fun e => ll_yK hb hr (ll_br (fun e2 => nm_r (nI_1 r) (h0 (by rw [e2, Bool.false_and, Bool.and_false]))) (fun e2 => ll_br (fun e3 => nm_r (nI_1 r) (h0 (by rw [e3, Bool.and_false, Bool.and_false]))) (fun e3 => h1 (by rw [e, e2, e3]; rfl))))))
theorem ll_y112 {post J K : Int32 → Prop} {a b p r : Nat} {x3 : Int32} {z : Bool} (ha : a < 4) (hb : b < 4) (hp : p < 3) (hr : r < 3)
    (h1 : (decide (p = 0 ∨ r = 0) && (ll_lk (op a) p && (ll_lk (op b) r && z))) = true → post 1) (h0 : (decide (p = 0 ∨ r = 0) && (ll_lk (op a) p && (ll_lk (op b) r && z))) = false → K (nI (r + 1))) : wY_mustPrecede_112 post J K (nI a) (nI b) x3 (nI p) (nI r) (ll_b z) fs op ct va vs cl := by
  unfold wY_mustPrecede_112
  by_cases e : p = 0
  · rw [decide_eq_true (Or.inl e), Bool.true_and] at h1 h0
    exact br_t (congrArg nI e) (ll_y124 ha hb hp hr h1 h0)
  · refine br_f (nI_ne0 (by omega) (by omega)) ?_
    by_cases e2 : r = 0
    · rw [decide_eq_true (Or.inr e2), Bool.true_and] at h1 h0
      exact br_t (congrArg nI e2) (ll_y124 ha hb hp hr h1 h0)
    · exact br_f (nI_ne0 (by omega) (by omega)) (nm_r (nI_1 r) (h0 (by rw [decide_eq_false (by omega), Bool.false_and])))
theorem ll_y49s {post J : Int32 → Prop} {n m a b d p r : Nat} (hn : n ≤ 4) (hY : ll_Y n ar sh va vs) (ha : a < n) (hb : b < n) (hd : d < 100) (hp : p < 3) (hr : r < 3)
    (h1 : ll_yc op ar sh a b d p r = true → post 1) (h0 : ll_yc op ar sh a b d p r = false → wY_mustPrecede_49 post J (nI a) (nI b) (nI d) (nI p) fs op ct va vs cl m (nI (r + 1))) :
    wY_mustPrecede_49 post J (nI a) (nI b) (nI d) (nI p) fs op ct va vs cl (m + 1) (nI r) := by
  have ea : nI a * 3 + nI p = nI (a * 3 + p) := by rw [show nI a * 3 = nI (a * 3) from pk_mul a 3, nI_add]
  have eb : nI b * 3 + nI r = nI (b * 3 + r) := by rw [show nI b * 3 = nI (b * 3) from pk_mul b 3, nI_add]
  have va' : vp_in (nI (a * 3 + p)) 12 := vp_in_nI (by omega) (by decide)
  have vb' : vp_in (nI (b * 3 + r)) 12 := vp_in_nI (by omega) (by decide)
  have ya := hY a ha p hp
  have yb := hY b hb r hr
  have l1 := ll_a_lt (ar a) p
  have l2 := ll_a_lt (ar b) r
  unfold ll_yc at h1 h0
  refine br_f (nI_ge (b := 3) (by omega) (by decide)) ?_
  rw [ea, eb, nI_clamp (by omega : a * 3 + p < 2 ^ 31), nI_clamp (by omega : b * 3 + r < 2 ^ 31), ya.1, ya.2, yb.1, yb.2]
  refine And.intro va' (And.intro vb' ?_)
  by_cases e : ll_a (ar a) p = ll_a (ar b) r
  · refine br_t (congrArg nI e) (And.intro va' (And.intro vb' ?_))
    rw [Int32.add_comm (nI d)]
    by_cases e2 : ll_h (sh a) p = ll_h (sh b) r + d
    · have hm : ll_mt ar sh a p b r d = true := by unfold ll_mt; rw [decide_eq_true e, decide_eq_true e2]; rfl
      rw [hm] at h1 h0
      exact br_t ((ll_shq (ll_h_lt _ _) (ll_h_lt _ _) hd).mpr e2) (ll_y112 (z := true) (by omega) (by omega) hp hr h1 h0)
    · have hm : ll_mt ar sh a p b r d = false := by unfold ll_mt; rw [decide_eq_false e2, Bool.and_false]
      rw [hm] at h1 h0
      exact br_f (fun y => e2 ((ll_shq (ll_h_lt _ _) (ll_h_lt _ _) hd).mp y)) (ll_y112 (z := false) (by omega) (by omega) hp hr h1 h0)
  · have hm : ll_mt ar sh a p b r d = false := by unfold ll_mt; rw [decide_eq_false e, Bool.false_and]
    rw [hm] at h1 h0
    exact br_f (fun y => e ((nI_eq (by omega) (by omega)).mp y)) (ll_y112 (z := false) (by omega) (by omega) hp hr h1 h0)
theorem ll_y40s {post : Int32 → Prop} {n m a b d p : Nat} (hn : n ≤ 4) (hY : ll_Y n ar sh va vs) (ha : a < n) (hb : b < n) (hd : d < 100) (hp : p < 3)
    (h1 : ll_yr op ar sh a b d p = true → post 1) (h0 : ll_yr op ar sh a b d p = false → wY_mustPrecede_40 post (nI a) (nI b) (nI d) fs op ct va vs cl m (nI (p + 1))) :
    wY_mustPrecede_40 post (nI a) (nI b) (nI d) fs op ct va vs cl (m + 1) (nI p) := by
  unfold ll_yr at h1 h0
  refine br_f (nI_ge (b := 3) (by omega) (by decide)) (Exists.intro 4 ?_)
  refine ll_y49s (m := 3) (r := 0) hn hY ha hb hd hp (by omega) (fun e => h1 (by rw [e, Bool.true_or])) (fun e0 => ?_)
  refine ll_y49s (m := 2) (r := 1) hn hY ha hb hd hp (by omega) (fun e => h1 (by rw [e, Bool.true_or, Bool.or_true])) (fun e1 => ?_)
  refine ll_y49s (m := 1) (r := 2) hn hY ha hb hd hp (by omega) (fun e => h1 (by rw [e, Bool.or_true, Bool.or_true])) (fun e2 => ?_)
  exact br_t (by decide) (nm_r (nI_1 p) (h0 (by rw [e0, e1, e2]; rfl)))
theorem ll_y40 {post : Int32 → Prop} {n a b d : Nat} (hn : n ≤ 4) (hY : ll_Y n ar sh va vs) (ha : a < n) (hb : b < n) (hd : d < 100) (h : post (ll_b (ll_cf op ar sh a b d))) : ∃ m, wY_mustPrecede_40 post (nI a) (nI b) (nI d) fs op ct va vs cl m 0 := by
  rw [← ll_yt_e] at h
  refine Exists.intro 4 ?_
  refine ll_y40s (m := 3) (p := 0) hn hY ha hb hd (by omega) (fun e => ll_p1 h (by unfold ll_yt; rw [e, Bool.true_or])) (fun e0 => ?_)
  refine ll_y40s (m := 2) (p := 1) hn hY ha hb hd (by omega) (fun e => ll_p1 h (by unfold ll_yt; rw [e, Bool.true_or, Bool.or_true])) (fun e1 => ?_)
  refine ll_y40s (m := 1) (p := 2) hn hY ha hb hd (by omega) (fun e => ll_p1 h (by unfold ll_yt; rw [e, Bool.or_true, Bool.or_true])) (fun e2 => ?_)
  exact br_t (by decide) (ll_p0 h (by unfold ll_yt; rw [e0, e1, e2]; rfl))
end
end
section
/-! ramp, sum, differ: both sides walk alike; one outcome for both -/
theorem ll_cix {a c : Nat} : nI a * 32 + nI c = nI (a * 32 + c) := by rw [show nI a * 32 = nI (a * 32) from pk_mul a 32, nI_add]
theorem ll_cin {a c : Nat} (ha : a < 3) (hc : c < 32) : vp_in (nI a * 32 + nI c) 96 := by
  rw [ll_cix]
  exact vp_in_nI (by omega) (by decide)
theorem ll_yA0 {post : Int32 → Prop} {v : SY} {a : Nat} (ha : a < 3) (h : post 0) : wpY_badArray post v (nI a) := by
  obtain ⟨x1, x2, x3, x4, x5, x6⟩ := v
  exact br_f (nI_pos (by omega)) (br_t (nI_le (b := 2) (by omega) (by decide)) h)
theorem ll_yA1 {post : Int32 → Prop} {v : SY} {x : Int32} (hx : x < 0 ∨ nI 3 ≤ x) (h : post 1) : wpY_badArray post v x := by
  obtain ⟨x1, x2, x3, x4, x5, x6⟩ := v
  refine br_c (fun _ => h) (fun hn => br_f ?_ h)
  rcases hx with hx | hx
  · exact absurd hx hn
  · intro z
    exact absurd (Int32.le_trans hx z) (by decide)
theorem ll_yN0 {post : Int32 → Prop} {n q : Nat} {x2 x3 x4 x5 x6 : Nat → Int32} (hn : n ≤ 4) (hq : q < n) (h : post 0) : wpY_noStatement post (nI n, x2, x3, x4, x5, x6) (nI q) := br_f (nI_pos (by omega)) (br_t (nI_lt hq (by omega)) h)
theorem ll_yN1 {post : Int32 → Prop} {n : Nat} {x : Int32} {x2 x3 x4 x5 x6 : Nat → Int32} (hx : x < 0 ∨ nI n ≤ x) (h : post 1) : wpY_noStatement post (nI n, x2, x3, x4, x5, x6) x := by
  refine br_c (fun _ => h) (fun hn => br_f ?_ h)
  rcases hx with hx | hx
  · exact absurd hx hn
  · exact Int32.not_lt.mpr hx
section
variable {fc fr fg fs : Int32} {op ar sh ct bh gr ft ln ops cts va vs : Nat → Int32}
theorem ll_ramp {a : Nat} {v2 v3 : Int32} (ha : a < 3) : ∀ (k i : Nat) (cl : Nat → Int32), i + k = 32 → ∃ cl' : Nat → Int32,
    (∀ post : Int32 → SX → Prop, post 0 (fc, fr, fg, cl', op, ar, sh, ct, bh, gr, ft, ln) → wX_ramp_12 post (nI a) v2 v3 fc fr fg (k + 1) (nI i) cl op ar sh ct bh gr ft ln) ∧
    (∀ post : Int32 → SY → Prop, post 0 (fs, ops, cts, va, vs, cl') → wY_ramp_13 post (nI a) v2 v3 fs (k + 1) (nI i) ops cts va vs cl) := by
  intro k
  induction k with
  | zero =>
    intro i cl hi
    have h : (32 : Int32) ≤ nI i := nI_le (a := 32) (by omega) (by omega)
    exact ⟨cl, fun _ hp => br_t h hp, fun _ hp => br_t h hp⟩
  | succ k ih =>
    intro i cl hi
    have h : ¬ (32 : Int32) ≤ nI i := nI_ge (b := 32) (by omega) (by decide)
    have hv := ll_cin (c := i) ha (by omega)
    obtain ⟨cl', hX, hY⟩ := ih (i + 1) (upd cl (nI a * 32 + nI i).toNatClampNeg (v2 + nI i * v3)) (by omega)
    exact ⟨cl', fun post hp => br_f h (And.intro hv (nm_e (nm_r (nI_1 i) (hX post hp)))), fun post hp => br_f h (And.intro hv (nm_e (nm_r (nI_1 i) (hY post hp))))⟩
theorem ll_sum {a : Nat} {cl : Nat → Int32} (ha : a < 3) : ∀ (k i : Nat) (s : Int32), i + k = 32 → ∃ r : Int32,
    (∀ post : Int32 → Prop, post r → wX_sum_13 post (nI a) fc fr fg cl op ar sh ct bh gr ft ln (k + 1) s (nI i)) ∧
    (∀ post : Int32 → Prop, post r → wY_sum_4 post (nI a) fs ops cts va vs cl (k + 1) s (nI i)) := by
  intro k
  induction k with
  | zero =>
    intro i s hi
    have h : (32 : Int32) ≤ nI i := nI_le (a := 32) (by omega) (by omega)
    exact ⟨s, fun _ hp => br_t h hp, fun _ hp => br_t h hp⟩
  | succ k ih =>
    intro i s hi
    have h : ¬ (32 : Int32) ≤ nI i := nI_ge (b := 32) (by omega) (by decide)
    have hv := ll_cin (c := i) ha (by omega)
    obtain ⟨r, hX, hY⟩ := ih (i + 1) (s + cl (nI a * 32 + nI i).toNatClampNeg) (by omega)
    exact ⟨r, fun post hp => br_f h (And.intro hv (nm_e (nm_r (nI_1 i) (hX post hp)))), fun post hp => br_f h (ll_yA0 ha (br_t rfl (And.intro hv (nm_e (nm_r (nI_1 i) (hY post hp))))))⟩
theorem ll_sumN {x : Int32} {cl : Nat → Int32} {post : Int32 → Prop} (hx : x < 0 ∨ nI 3 ≤ x) (hp : post 0) : ∀ (k i : Nat), i + k = 32 → wY_sum_4 post x fs ops cts va vs cl (k + 1) 0 (nI i) := by
  intro k
  induction k with
  | zero =>
    intro i hi
    exact br_t (nI_le (a := 32) (by omega) (by omega)) hp
  | succ k ih =>
    intro i hi
    exact br_f (nI_ge (b := 32) (by omega) (by decide)) (ll_yA1 hx (br_f (by decide) (nm_r (nI_1 i) (ih (i + 1) (by omega)))))
theorem ll_dif {a b : Nat} {cl : Nat → Int32} (ha : a < 3) (hb : b < 3) : ∀ (k i : Nat) (s : Int32), i + k = 32 → ∃ r : Int32,
    (∀ post : Int32 → Prop, post r → wX_differ_21 post (nI a) (nI b) fc fr fg cl op ar sh ct bh gr ft ln (k + 1) s (nI i)) ∧
    (∀ post : Int32 → Prop, post r → wY_differ_23 post (nI a) (nI b) fs ops cts va vs cl (k + 1) s (nI i)) := by
  intro k
  induction k with
  | zero =>
    intro i s hi
    have h : (32 : Int32) ≤ nI i := nI_le (a := 32) (by omega) (by omega)
    exact ⟨s, fun _ hp => br_t h hp, fun _ hp => br_t h hp⟩
  | succ k ih =>
    intro i s hi
    have h : ¬ (32 : Int32) ≤ nI i := nI_ge (b := 32) (by omega) (by decide)
    have hv := ll_cin (c := i) ha (by omega)
    have hw := ll_cin (c := i) hb (by omega)
    by_cases e : cl (nI a * 32 + nI i).toNatClampNeg = cl (nI b * 32 + nI i).toNatClampNeg
    · obtain ⟨r, hX, hY⟩ := ih (i + 1) s (by omega)
      exact ⟨r, fun post hp => br_f h (And.intro hv (And.intro hw (br_t e (nm_r (nI_1 i) (hX post hp))))), fun post hp => br_f h (And.intro hv (And.intro hw (br_t e (nm_r (nI_1 i) (hY post hp)))))⟩
    · obtain ⟨r, hX, hY⟩ := ih (i + 1) (s + 1) (by omega)
      exact ⟨r, fun post hp => br_f h (And.intro hv (And.intro hw (br_f e (nm_e (nm_r (nI_1 i) (hX post hp)))))), fun post hp => br_f h (And.intro hv (And.intro hw (br_f e (nm_e (nm_r (nI_1 i) (hY post hp))))))⟩
end
end
section
/-! the relation, and what is owed -/
/-- same count, operations, constants and cells; the reference's arrays and shifts are the component's, unpacked; a plan that is held ready is good -/
def i_Rel (k : Nat) (u : SX) (v : SY) : Prop := ∃ (n : Nat) (fr fg : Int32) (cl op ar sh ct bh gr ft ln va vs : Nat → Int32), u = (nI n, fr, fg, cl, op, ar, sh, ct, bh, gr, ft, ln) ∧ v = (nI n, op, ct, va, vs, cl) ∧ n ≤ 4 ∧ ll_B n ar sh ∧ ll_Y n ar sh va vs ∧ (fr = 0 ∨ ll_OK n op ar sh gr ft fg)
theorem ll_mk {k n : Nat} {fr fg : Int32} {cl op ar sh ct bh gr ft ln va vs : Nat → Int32} (h1 : n ≤ 4) (h2 : ll_B n ar sh) (h3 : ll_Y n ar sh va vs) (h4 : fr = 0 ∨ ll_OK n op ar sh gr ft fg) : i_Rel k (nI n, fr, fg, cl, op, ar, sh, ct, bh, gr, ft, ln) (nI n, op, ct, va, vs, cl) :=
  ⟨n, fr, fg, cl, op, ar, sh, ct, bh, gr, ft, ln, va, vs, rfl, rfl, h1, h2, h3, h4⟩
theorem ll_el {k : Nat} {u : SX} {v : SY} {P : SX → SY → Prop} (I : i_Rel k u v)
    (h : ∀ (n : Nat) (fr fg : Int32) (cl op ar sh ct bh gr ft ln va vs : Nat → Int32), n ≤ 4 → ll_B n ar sh → ll_Y n ar sh va vs → (fr = 0 ∨ ll_OK n op ar sh gr ft fg) → P (nI n, fr, fg, cl, op, ar, sh, ct, bh, gr, ft, ln) (nI n, op, ct, va, vs, cl)) : P u v := by
  obtain ⟨n, fr, fg, cl, op, ar, sh, ct, bh, gr, ft, ln, va, vs, e1, e2, h1, h2, h3, h4⟩ := I
  rw [e1, e2]
  exact h n fr fg cl op ar sh ct bh gr ft ln va vs h1 h2 h3 h4
theorem i_up {k : Nat} {u : SX} {v : SY} (h : i_Rel k u v) : i_Rel (k + 5) u v := h
theorem i_vc0 : wpX_init (fun u => wpY_init (fun v => i_Rel 0 u v)) := ll_mk (k := 0) (n := 0) (by omega) (fun q hq => absurd hq (Nat.not_lt_zero _)) (fun q hq => absurd hq (Nat.not_lt_zero _)) (Or.inl rfl)
theorem i_vc_statement {k : Nat} {u : SX} {v : SY} (I : i_Rel k u v) (hk : k + 5 ≤ 2560) (v1 : Int32) (v2 : Int32) (v3 : Int32) (v4 : Int32) : wpX_statement (fun r u' => wpY_statement (fun r' v' => r' = r ∧ i_Rel (k + 5) u' v') v v1 v2 v3 v4) u v1 v2 v3 v4 := by
  refine ll_el (P := fun u v => wpX_statement (fun r u' => wpY_statement (fun r' v' => r' = r ∧ i_Rel (k + 5) u' v') v v1 v2 v3 v4) u v1 v2 v3 v4) I ?_
  intro n fr fg cl op ar sh ct bh gr ft ln va vs hn hB hY hr
  have keep : i_Rel (k + 5) (nI n, fr, fg, cl, op, ar, sh, ct, bh, gr, ft, ln) (nI n, op, ct, va, vs, cl) := ll_mk hn hB hY hr
  refine ll_xSt hn (fun a => ?_) (fun a b => ?_) (fun a b c => ?_) (fun a b c d => ?_) (fun a b c d => ?_)
  · exact ll_ySt hn (fun _ => ⟨rfl, keep⟩) (fun x => absurd x a) (fun x => absurd x a) (fun x => absurd x a) (fun x => absurd x a)
  · exact ll_ySt hn (fun x => absurd a x) (fun _ _ => ⟨rfl, keep⟩) (fun _ x => absurd x b) (fun _ x => absurd x b) (fun _ x => absurd x b)
  · exact ll_ySt hn (fun x => absurd a x) (fun _ x => absurd b x) (fun _ _ _ => ⟨rfl, keep⟩) (fun _ _ x => absurd x c) (fun _ _ x => absurd x c)
  · exact ll_ySt hn (fun x => absurd a x) (fun _ x => absurd b x) (fun _ _ x => absurd c x) (fun _ _ _ _ => ⟨rfl, keep⟩) (fun _ _ _ x => by omega)
  · refine ll_ySt hn (fun x => absurd a x) (fun _ x => absurd b x) (fun _ _ x => absurd c x) (fun _ _ _ x => by omega) (fun _ _ _ _ va' vs' g1 g2 => ⟨rfl, ll_mk (by omega) (fun q hq p hp => ?_) (fun q hq p hp => ?_) (Or.inl rfl)⟩)
    · by_cases e : q = n
      · rw [e, pk_us, pk_us]
        exact ⟨a p hp, b p hp⟩
      · rw [pk_un e, pk_un e]
        exact hB q (by omega) p hp
    · by_cases e : q = n
      · rw [e, pk_us, pk_us]
        exact g1 p hp
      · rw [pk_un e, pk_un e, (g2 (q * 3 + p) (by omega)).1, (g2 (q * 3 + p) (by omega)).2]
        exact hY q (by omega) p hp
theorem i_vc_clear {k : Nat} {u : SX} {v : SY} (I : i_Rel k u v) (hk : k + 5 ≤ 2560) : wpX_clear (fun u' => wpY_clear (fun v' => i_Rel (k + 5) u' v') v) u := by
  refine ll_el (P := fun u v => wpX_clear (fun u' => wpY_clear (fun v' => i_Rel (k + 5) u' v') v) u) I ?_
  intro n fr fg cl op ar sh ct bh gr ft ln va vs hn hB hY hr
  exact ll_mk (k := k + 5) (n := 0) (by omega) (fun q hq => absurd hq (Nat.not_lt_zero _)) (fun q hq => absurd hq (Nat.not_lt_zero _)) (Or.inl rfl)
theorem i_vc_exchange {k : Nat} {u : SX} {v : SY} (I : i_Rel k u v) (hk : k + 5 ≤ 2560) (v1 : Int32) (v2 : Int32) : wpX_exchange (fun r u' => wpY_exchange (fun r' v' => r' = r ∧ i_Rel (k + 5) u' v') v v1 v2) u v1 v2 := by
  refine ll_el (P := fun u v => wpX_exchange (fun r u' => wpY_exchange (fun r' v' => r' = r ∧ i_Rel (k + 5) u' v') v v1 v2) u v1 v2) I ?_
  intro n fr fg cl op ar sh ct bh gr ft ln va vs hn hB hY hr
  have keep : i_Rel (k + 5) (nI n, fr, fg, cl, op, ar, sh, ct, bh, gr, ft, ln) (nI n, op, ct, va, vs, cl) := ll_mk hn hB hY hr
  unfold wpX_exchange
  dsimp only
  have bad1 : (v1 < 0 ∨ nI n ≤ v1) → wpY_exchange (fun r' v' => r' = -3 ∧ i_Rel (k + 5) (nI n, fr, fg, cl, op, ar, sh, ct, bh, gr, ft, ln) v') (nI n, op, ct, va, vs, cl) v1 v2 := by
    intro h
    unfold wpY_exchange
    dsimp only
    exact ll_yN1 h (br_f (by decide) ⟨rfl, keep⟩)
  rcases pk_ix v1 (n := n) (by omega) with h | h | ⟨a, ha, rfl⟩
  · exact ll_xN1 (Or.inl h) (br_f (by decide) (bad1 (Or.inl h)))
  · exact ll_xN1 (Or.inr h) (br_f (by decide) (bad1 (Or.inr h)))
  have bad2 : (v2 < 0 ∨ nI n ≤ v2) → wpY_exchange (fun r' v' => r' = -3 ∧ i_Rel (k + 5) (nI n, fr, fg, cl, op, ar, sh, ct, bh, gr, ft, ln) v') (nI n, op, ct, va, vs, cl) (nI a) v2 := by
    intro h
    unfold wpY_exchange
    dsimp only
    exact ll_yN0 hn ha (br_t rfl (ll_yN1 h (br_f (by decide) ⟨rfl, keep⟩)))
  refine ll_xN0 hn ha (br_t rfl ?_)
  rcases pk_ix v2 (n := n) (by omega) with h | h | ⟨b, hb, rfl⟩
  · exact ll_xN1 (Or.inl h) (br_f (by decide) (bad2 (Or.inl h)))
  · exact ll_xN1 (Or.inr h) (br_f (by decide) (bad2 (Or.inr h)))
  refine ll_xN0 hn hb (br_t rfl ?_)
  have ia : vp_in (nI a) 4 := vp_in_nI (by omega) (by decide)
  have ib : vp_in (nI b) 4 := vp_in_nI (by omega) (by decide)
  rw [nI_clamp (by omega : a < 2 ^ 31), nI_clamp (by omega : b < 2 ^ 31)]
  refine And.intro ia (nm_e (And.intro ib (And.intro ia (nm_e (And.intro ib (nm_e (And.intro ia (nm_e (And.intro ib (And.intro ia (nm_e (And.intro ib (nm_e (And.intro ia (nm_e (And.intro ib (And.intro ia (nm_e (And.intro ib (nm_e (And.intro ia (nm_e (And.intro ib (And.intro ia (nm_e (And.intro ib (nm_e ?_)))))))))))))))))))))))))))
  unfold wpY_exchange
  dsimp only
  refine ll_yN0 hn ha (br_t rfl (ll_yN0 hn hb (br_t rfl ?_)))
  rw [nI_clamp (by omega : a < 2 ^ 31), nI_clamp (by omega : b < 2 ^ 31)]
  refine And.intro ia (nm_e (And.intro ib (And.intro ia (nm_e (And.intro ib (nm_e (And.intro ia (nm_e (And.intro ib (And.intro ia (nm_e (And.intro ib (nm_e (Exists.intro 4 ?_))))))))))))))
  refine ll_y76 (va0 := va) (vs0 := vs) (by omega) (by omega) (fun va' vs' g1 g2 => ⟨rfl, ll_mk hn (fun q hq p hp => ?_) (fun q hq p hp => ?_) (Or.inl rfl)⟩) 3 0 va vs (by omega) (fun q x _ => by rw [if_neg (Nat.not_lt_zero x)]) (fun q x _ => by rw [if_neg (Nat.not_lt_zero x)])
  · rw [ll_w_upd, ll_w_upd]
    exact hB _ (ll_w_lt ha hb hq) p hp
  · rw [ll_w_upd, ll_w_upd, g1 q p hp, g2 q p hp]
    exact hY _ (ll_w_lt ha hb hq) p hp
theorem i_vc_set {k : Nat} {u : SX} {v : SY} (I : i_Rel k u v) (hk : k + 5 ≤ 2560) (v1 : Int32) (v2 : Int32) (v3 : Int32) : wpX_set (fun r u' => wpY_set (fun r' v' => r' = r ∧ i_Rel (k + 5) u' v') v v1 v2 v3) u v1 v2 v3 := by
  refine ll_el (P := fun u v => wpX_set (fun r u' => wpY_set (fun r' v' => r' = r ∧ i_Rel (k + 5) u' v') v v1 v2 v3) u v1 v2 v3) I ?_
  intro n fr fg cl op ar sh ct bh gr ft ln va vs hn hB hY hr
  have keep : ∀ cl : Nat → Int32, i_Rel (k + 5) (nI n, fr, fg, cl, op, ar, sh, ct, bh, gr, ft, ln) (nI n, op, ct, va, vs, cl) := fun cl => ll_mk hn hB hY hr
  unfold wpX_set wpY_set
  dsimp only
  rcases pk_ix v1 (n := 3) (by omega) with h | h | ⟨a, ha, rfl⟩
  · exact ll_bA1 (Or.inl h) (br_f (by decide) (ll_yA1 (Or.inl h) (br_f (by decide) ⟨rfl, keep cl⟩)))
  · exact ll_bA1 (Or.inr h) (br_f (by decide) (ll_yA1 (Or.inr h) (br_f (by decide) ⟨rfl, keep cl⟩)))
  refine ll_bA0 ha (br_t rfl ?_)
  rcases pk_ix v2 (n := 32) (by omega) with h | h | ⟨c, hc, rfl⟩
  · exact br_t h (ll_yA0 ha (br_t rfl (ll_yC1 (Or.inl h) (br_f (by decide) ⟨rfl, keep cl⟩))))
  · have h0 : ¬ v2 < 0 := fun z => absurd (Int32.lt_of_le_of_lt h z) (by decide)
    have h1 : ¬ v2 < 32 := fun z => absurd (Int32.lt_of_le_of_lt h z) (by decide)
    have h2 : ¬ v2 ≤ 31 := fun z => absurd (Int32.le_trans h z) (by decide)
    exact br_f h0 (br_f h1 (ll_yA0 ha (br_t rfl (ll_yC1 (Or.inr h2) (br_f (by decide) ⟨rfl, keep cl⟩)))))
  · have hv := ll_cin ha hc
    refine br_f (nI_pos (by omega)) (br_t (nI_lt (b := 32) hc (by decide)) (And.intro hv (nm_e (And.intro hv (nm_e ?_)))))
    exact ll_yA0 ha (br_t rfl (ll_yC0 (nI_pos (by omega)) (nI_le (b := 31) (by omega) (by decide)) (br_t rfl (And.intro hv (nm_e (And.intro hv (nm_e ⟨rfl, keep _⟩)))))))
theorem i_vc_ramp {k : Nat} {u : SX} {v : SY} (I : i_Rel k u v) (hk : k + 5 ≤ 2560) (v1 : Int32) (v2 : Int32) (v3 : Int32) : wpX_ramp (fun r u' => wpY_ramp (fun r' v' => r' = r ∧ i_Rel (k + 5) u' v') v v1 v2 v3) u v1 v2 v3 := by
  refine ll_el (P := fun u v => wpX_ramp (fun r u' => wpY_ramp (fun r' v' => r' = r ∧ i_Rel (k + 5) u' v') v v1 v2 v3) u v1 v2 v3) I ?_
  intro n fr fg cl op ar sh ct bh gr ft ln va vs hn hB hY hr
  have keep : ∀ cl : Nat → Int32, i_Rel (k + 5) (nI n, fr, fg, cl, op, ar, sh, ct, bh, gr, ft, ln) (nI n, op, ct, va, vs, cl) := fun cl => ll_mk hn hB hY hr
  unfold wpX_ramp wpY_ramp
  dsimp only
  rcases pk_ix v1 (n := 3) (by omega) with h | h | ⟨a, ha, rfl⟩
  · exact ll_bA1 (Or.inl h) (br_f (by decide) (ll_yA1 (Or.inl h) (br_f (by decide) ⟨rfl, keep cl⟩)))
  · exact ll_bA1 (Or.inr h) (br_f (by decide) (ll_yA1 (Or.inr h) (br_f (by decide) ⟨rfl, keep cl⟩)))
  obtain ⟨cl', hX, hYY⟩ := ll_ramp (fc := nI n) (fr := fr) (fg := fg) (fs := nI n) (op := op) (ar := ar) (sh := sh) (ct := ct) (bh := bh) (gr := gr) (ft := ft) (ln := ln) (ops := op) (cts := ct) (va := va) (vs := vs) (v2 := v2) (v3 := v3) ha 32 0 cl (by omega)
  exact ll_bA0 ha (br_t rfl (Exists.intro 33 (hX _ (ll_yA0 ha (br_t rfl (Exists.intro 33 (hYY _ ⟨rfl, keep cl'⟩)))))))
theorem i_vc_run {k : Nat} {u : SX} {v : SY} (I : i_Rel k u v) (hk : k + 5 ≤ 2560) (v1 : Int32) (v2 : Int32) : wpX_run (fun r u' => wpY_run (fun r' v' => r' = r ∧ i_Rel (k + 5) u' v') v v1 v2) u v1 v2 := by
  refine ll_el (P := fun u v => wpX_run (fun r u' => wpY_run (fun r' v' => r' = r ∧ i_Rel (k + 5) u' v') v v1 v2) u v1 v2) I ?_
  intro n fr fg cl op ar sh ct bh gr ft ln va vs hn hB hY hr
  have keep : i_Rel (k + 5) (nI n, fr, fg, cl, op, ar, sh, ct, bh, gr, ft, ln) (nI n, op, ct, va, vs, cl) := ll_mk hn hB hY hr
  have big : ∀ x : Int32, nI 32 ≤ x → ¬ x < 0 ∧ ¬ x < 32 ∧ ¬ x ≤ 31 := fun x h => ⟨fun z => absurd (Int32.lt_of_le_of_lt h z) (by decide), fun z => absurd (Int32.lt_of_le_of_lt h z) (by decide), fun z => absurd (Int32.le_trans h z) (by decide)⟩
  rcases pk_ix v1 (n := 32) (by omega) with h | h | ⟨lo, hlo, rfl⟩
  · unfold wpX_run wpY_run
    dsimp only
    exact br_t h (ll_yC1 (Or.inl h) (br_f (by decide) ⟨rfl, keep⟩))
  · unfold wpX_run wpY_run
    dsimp only
    exact br_f (big v1 h).1 (br_t h (ll_yC1 (Or.inr (big v1 h).2.2) (br_f (by decide) ⟨rfl, keep⟩)))
  have l0 : ¬ nI lo < 0 := nI_pos (by omega)
  have l1 : nI lo ≤ 31 := nI_le (b := 31) (by omega) (by decide)
  have l2 : ¬ 32 ≤ nI lo := nI_ge (b := 32) (by omega) (by decide)
  rcases pk_ix v2 (n := 32) (by omega) with h | h | ⟨hi, hhi, rfl⟩
  · unfold wpX_run wpY_run
    dsimp only
    exact br_f l0 (br_f l2 (br_t h (ll_yC0 l0 l1 (br_t rfl (ll_yC1 (Or.inl h) (br_f (by decide) ⟨rfl, keep⟩))))))
  · unfold wpX_run wpY_run
    dsimp only
    exact br_f l0 (br_f l2 (br_f (big v2 h).1 (br_f (big v2 h).2.1 (ll_yC0 l0 l1 (br_t rfl (ll_yC1 (Or.inr (big v2 h).2.2) (br_f (by decide) ⟨rfl, keep⟩)))))))
  refine ll_xRun hn hB hr hlo hhi (fun hF => ?_) (fun hc hz => ?_) (fun hc hz fr' fg' bh' gr' ft' ln' hok => ?_)
  · exact ll_yRun hn hB hlo hhi hY (fun _ => ⟨rfl, keep⟩) (fun hc => absurd hc hF)
  · refine ll_yRun hn hB hlo hhi hY (fun z => absurd hc z) (fun _ => ?_)
    rw [show hi + 1 - lo = 0 by omega]
    exact ⟨rfl, keep⟩
  · exact ll_yRun hn hB hlo hhi hY (fun z => absurd hc z) (fun _ => ⟨rfl, ll_mk hn hB hY (Or.inr hok)⟩)
theorem i_vc_get {k : Nat} {u : SX} {v : SY} (I : i_Rel k u v) (hk : k + 5 ≤ 2560) (v1 : Int32) (v2 : Int32) : wpX_get (fun r => wpY_get (fun r' => r' = r ∧ i_Rel (k + 5) u v) v v1 v2) u v1 v2 := by
  refine ll_el (P := fun u v => wpX_get (fun r => wpY_get (fun r' => r' = r ∧ i_Rel (k + 5) u v) v v1 v2) u v1 v2) I ?_
  intro n fr fg cl op ar sh ct bh gr ft ln va vs hn hB hY hr
  have keep : i_Rel (k + 5) (nI n, fr, fg, cl, op, ar, sh, ct, bh, gr, ft, ln) (nI n, op, ct, va, vs, cl) := ll_mk hn hB hY hr
  unfold wpX_get wpY_get
  dsimp only
  rcases pk_ix v1 (n := 3) (by omega) with h | h | ⟨a, ha, rfl⟩
  · exact ll_bA1 (Or.inl h) (br_f (by decide) (ll_yA1 (Or.inl h) (br_f (by decide) ⟨rfl, keep⟩)))
  · exact ll_bA1 (Or.inr h) (br_f (by decide) (ll_yA1 (Or.inr h) (br_f (by decide) ⟨rfl, keep⟩)))
  refine ll_bA0 ha (br_t rfl ?_)
  rcases pk_ix v2 (n := 32) (by omega) with h | h | ⟨c, hc, rfl⟩
  · exact br_t h (ll_yA0 ha (br_t rfl (ll_yC1 (Or.inl h) (br_f (by decide) ⟨rfl, keep⟩))))
  · have h0 : ¬ v2 < 0 := fun z => absurd (Int32.lt_of_le_of_lt h z) (by decide)
    have h1 : ¬ v2 < 32 := fun z => absurd (Int32.lt_of_le_of_lt h z) (by decide)
    have h2 : ¬ v2 ≤ 31 := fun z => absurd (Int32.le_trans h z) (by decide)
    exact br_f h0 (br_f h1 (ll_yA0 ha (br_t rfl (ll_yC1 (Or.inr h2) (br_f (by decide) ⟨rfl, keep⟩)))))
  · have hv := ll_cin ha hc
    exact br_f (nI_pos (by omega)) (br_t (nI_lt (b := 32) hc (by decide)) (And.intro hv (ll_yA0 ha (br_t rfl (ll_yC0 (nI_pos (by omega)) (nI_le (b := 31) (by omega) (by decide)) (br_t rfl (And.intro hv ⟨rfl, keep⟩)))))))
theorem i_vc_sum {k : Nat} {u : SX} {v : SY} (I : i_Rel k u v) (hk : k + 5 ≤ 2560) (v1 : Int32) : wpX_sum (fun r => wpY_sum (fun r' => r' = r ∧ i_Rel (k + 5) u v) v v1) u v1 := by
  refine ll_el (P := fun u v => wpX_sum (fun r => wpY_sum (fun r' => r' = r ∧ i_Rel (k + 5) u v) v v1) u v1) I ?_
  intro n fr fg cl op ar sh ct bh gr ft ln va vs hn hB hY hr
  have keep : i_Rel (k + 5) (nI n, fr, fg, cl, op, ar, sh, ct, bh, gr, ft, ln) (nI n, op, ct, va, vs, cl) := ll_mk hn hB hY hr
  unfold wpX_sum wpY_sum
  dsimp only
  rcases pk_ix v1 (n := 3) (by omega) with h | h | ⟨a, ha, rfl⟩
  · exact ll_bA1 (Or.inl h) (br_f (by decide) (Exists.intro 33 (ll_sumN (Or.inl h) ⟨rfl, keep⟩ 32 0 (by omega))))
  · exact ll_bA1 (Or.inr h) (br_f (by decide) (Exists.intro 33 (ll_sumN (Or.inr h) ⟨rfl, keep⟩ 32 0 (by omega))))
  obtain ⟨r, hX, hYY⟩ := ll_sum (fc := nI n) (fr := fr) (fg := fg) (fs := nI n) (op := op) (ar := ar) (sh := sh) (ct := ct) (bh := bh) (gr := gr) (ft := ft) (ln := ln) (ops := op) (cts := ct) (va := va) (vs := vs) (cl := cl) ha 32 0 0 (by omega)
  exact ll_bA0 ha (br_t rfl (Exists.intro 33 (hX _ (Exists.intro 33 (hYY _ ⟨rfl, keep⟩)))))
theorem i_vc_differ {k : Nat} {u : SX} {v : SY} (I : i_Rel k u v) (hk : k + 5 ≤ 2560) (v1 : Int32) (v2 : Int32) : wpX_differ (fun r => wpY_differ (fun r' => r' = r ∧ i_Rel (k + 5) u v) v v1 v2) u v1 v2 := by
  refine ll_el (P := fun u v => wpX_differ (fun r => wpY_differ (fun r' => r' = r ∧ i_Rel (k + 5) u v) v v1 v2) u v1 v2) I ?_
  intro n fr fg cl op ar sh ct bh gr ft ln va vs hn hB hY hr
  have keep : i_Rel (k + 5) (nI n, fr, fg, cl, op, ar, sh, ct, bh, gr, ft, ln) (nI n, op, ct, va, vs, cl) := ll_mk hn hB hY hr
  unfold wpX_differ wpY_differ
  dsimp only
  rcases pk_ix v1 (n := 3) (by omega) with h | h | ⟨a, ha, rfl⟩
  · exact ll_bA1 (Or.inl h) (br_f (by decide) (ll_yA1 (Or.inl h) (br_f (by decide) ⟨rfl, keep⟩)))
  · exact ll_bA1 (Or.inr h) (br_f (by decide) (ll_yA1 (Or.inr h) (br_f (by decide) ⟨rfl, keep⟩)))
  refine ll_bA0 ha (br_t rfl ?_)
  rcases pk_ix v2 (n := 3) (by omega) with h | h | ⟨b, hb, rfl⟩
  · exact ll_bA1 (Or.inl h) (br_f (by decide) (ll_yA0 ha (br_t rfl (ll_yA1 (Or.inl h) (br_f (by decide) ⟨rfl, keep⟩)))))
  · exact ll_bA1 (Or.inr h) (br_f (by decide) (ll_yA0 ha (br_t rfl (ll_yA1 (Or.inr h) (br_f (by decide) ⟨rfl, keep⟩)))))
  obtain ⟨r, hX, hYY⟩ := ll_dif (fc := nI n) (fr := fr) (fg := fg) (fs := nI n) (op := op) (ar := ar) (sh := sh) (ct := ct) (bh := bh) (gr := gr) (ft := ft) (ln := ln) (ops := op) (cts := ct) (va := va) (vs := vs) (cl := cl) ha hb 32 0 0 (by omega)
  exact ll_bA0 hb (br_t rfl (Exists.intro 33 (hX _ (ll_yA0 ha (br_t rfl (ll_yA0 hb (br_t rfl (Exists.intro 33 (hYY _ ⟨rfl, keep⟩)))))))))
theorem i_vc_size {k : Nat} {u : SX} {v : SY} (I : i_Rel k u v) (hk : k + 5 ≤ 2560) : wpX_size (fun r => wpY_size (fun r' => r' = r ∧ i_Rel (k + 5) u v) v) u := by
  refine ll_el (P := fun u v => wpX_size (fun r => wpY_size (fun r' => r' = r ∧ i_Rel (k + 5) u v) v) u) I ?_
  intro n fr fg cl op ar sh ct bh gr ft ln va vs hn hB hY hr
  exact And.intro rfl (ll_mk hn hB hY hr)
theorem ll_nar (b : Bool) : narrow .boolean (.int (ll_b b)) = .int (ll_b b) := by
  cases b with
  | false => rfl
  | true => rfl
theorem i_vc_mustPrecede {k : Nat} {u : SX} {v : SY} (I : i_Rel k u v) (hk : k + 5 ≤ 2560) (v1 : Int32) (v2 : Int32) (v3 : Int32) : wpX_mustPrecede (fun r => wpY_mustPrecede (fun r' => r' = r ∧ i_Rel (k + 5) u v) v v1 v2 v3) u v1 v2 v3 := by
  refine ll_el (P := fun u v => wpX_mustPrecede (fun r => wpY_mustPrecede (fun r' => r' = r ∧ i_Rel (k + 5) u v) v v1 v2 v3) u v1 v2 v3) I ?_
  intro n fr fg cl op ar sh ct bh gr ft ln va vs hn hB hY hr
  have keep : i_Rel (k + 5) (nI n, fr, fg, cl, op, ar, sh, ct, bh, gr, ft, ln) (nI n, op, ct, va, vs, cl) := ll_mk hn hB hY hr
  unfold wpX_mustPrecede wpY_mustPrecede
  dsimp only
  have Y1 : (v1 < 0 ∨ nI n ≤ v1) → wpY_mustPrecede (fun r' => r' = 0 ∧ i_Rel (k + 5) (nI n, fr, fg, cl, op, ar, sh, ct, bh, gr, ft, ln) (nI n, op, ct, va, vs, cl)) (nI n, op, ct, va, vs, cl) v1 v2 v3 := by
    intro h
    unfold wpY_mustPrecede
    dsimp only
    exact ll_yN1 h (br_f (by decide) ⟨rfl, keep⟩)
  have Y2 : ∀ a, a < n → (v2 < 0 ∨ nI n ≤ v2) → wpY_mustPrecede (fun r' => r' = 0 ∧ i_Rel (k + 5) (nI n, fr, fg, cl, op, ar, sh, ct, bh, gr, ft, ln) (nI n, op, ct, va, vs, cl)) (nI n, op, ct, va, vs, cl) (nI a) v2 v3 := by
    intro a ha h
    unfold wpY_mustPrecede
    dsimp only
    exact ll_yN0 hn ha (br_t rfl (ll_yN1 h (br_f (by decide) ⟨rfl, keep⟩)))
  have Y3 : ∀ a b, a < n → b < n → (v3 < 0 ∨ 8 < v3) → wpY_mustPrecede (fun r' => r' = 0 ∧ i_Rel (k + 5) (nI n, fr, fg, cl, op, ar, sh, ct, bh, gr, ft, ln) (nI n, op, ct, va, vs, cl)) (nI n, op, ct, va, vs, cl) (nI a) (nI b) v3 := by
    intro a b ha hb h
    unfold wpY_mustPrecede
    dsimp only
    refine ll_yN0 hn ha (br_t rfl (ll_yN0 hn hb (br_t rfl (br_c (fun _ => ⟨rfl, keep⟩) (fun h0 => br_t ?_ ⟨rfl, keep⟩)))))
    rcases h with h | h
    · exact absurd h h0
    · exact h
  have Y4 : (v3 < 0 ∨ 8 < v3) → wpY_mustPrecede (fun r' => r' = 0 ∧ i_Rel (k + 5) (nI n, fr, fg, cl, op, ar, sh, ct, bh, gr, ft, ln) (nI n, op, ct, va, vs, cl)) (nI n, op, ct, va, vs, cl) v1 v2 v3 := by
    intro h
    rcases pk_ix v1 (n := n) (by omega) with h1 | h1 | ⟨a, ha, rfl⟩
    · exact Y1 (Or.inl h1)
    · exact Y1 (Or.inr h1)
    rcases pk_ix v2 (n := n) (by omega) with h1 | h1 | ⟨b, hb, rfl⟩
    · exact Y2 a ha (Or.inl h1)
    · exact Y2 a ha (Or.inr h1)
    exact Y3 a b ha hb h
  rcases pk_ix v3 (n := 9) (by omega) with h | h | ⟨d, hd, rfl⟩
  · exact br_t h (Y4 (Or.inl h))
  · have h0 : ¬ v3 < 0 := fun z => absurd (Int32.lt_of_le_of_lt h z) (by decide)
    have h8 : 8 < v3 := Int32.lt_of_lt_of_le (by decide) h
    exact br_f h0 (br_t h8 (Y4 (Or.inr h8)))
  have d0 : ¬ nI d < 0 := nI_pos (by omega)
  have d8 : ¬ 8 < nI d := nI_nlt (a := 8) (by omega) (by omega)
  refine br_f d0 (br_f d8 ?_)
  rcases pk_ix v1 (n := n) (by omega) with h1 | h1 | ⟨a, ha, rfl⟩
  · exact ll_xN1 (Or.inl h1) (br_f (by decide) (Y1 (Or.inl h1)))
  · exact ll_xN1 (Or.inr h1) (br_f (by decide) (Y1 (Or.inr h1)))
  refine ll_xN0 hn ha (br_t rfl ?_)
  rcases pk_ix v2 (n := n) (by omega) with h1 | h1 | ⟨b, hb, rfl⟩
  · exact ll_xN1 (Or.inl h1) (br_f (by decide) (Y2 a ha (Or.inl h1)))
  · exact ll_xN1 (Or.inr h1) (br_f (by decide) (Y2 a ha (Or.inr h1)))
  refine ll_xN0 hn hb (br_t rfl (ll_xP (by omega) (by omega) (by omega) (And.intro (ll_nar _) ?_)))
  refine ll_yN0 hn ha (br_t rfl (ll_yN0 hn hb (br_t rfl (br_f d0 (br_f d8 ?_)))))
  unfold ll_pr
  by_cases e : d = 0
  · subst e
    refine br_t rfl ?_
    by_cases z : a < b
    · rw [if_neg (by omega)]
      exact br_t (nI_lt z (by omega)) (ll_y40 hn hY ha hb (by omega) ⟨rfl, keep⟩)
    · rw [if_pos (by omega)]
      exact br_f (nI_nlt (by omega) (by omega)) ⟨rfl, keep⟩
  · rw [if_neg (by omega)]
    exact br_f (nI_ne0 (by omega) (by omega)) (ll_y40 hn hY ha hb (by omega) ⟨rfl, keep⟩)
end
