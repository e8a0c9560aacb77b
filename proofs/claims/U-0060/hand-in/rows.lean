section
theorem pk_us {f : Nat → Int32} {k : Nat} {x : Int32} : upd f k x k = x := if_pos rfl
theorem pk_un {f : Nat → Int32} {k j : Nat} {x : Int32} (h : j ≠ k) : upd f k x j = f j := if_neg h
theorem pk_sub {a b : Nat} (h : b ≤ a) : nI a - nI b = nI (a - b) := by
  obtain ⟨c, rfl⟩ : ∃ c, a = c + b := ⟨a - b, by omega⟩
  rw [← nI_add, Int32.add_sub_cancel, Nat.add_sub_cancel]
theorem pk_m1 (n : Nat) : nI (n + 1) + (-1) = nI n := by
  rw [← nI_1, Int32.add_assoc, show (1 : Int32) + (-1) = 0 from rfl, Int32.add_zero]
theorem pk_mul (a b : Nat) : nI a * nI b = nI (a * b) := (Int32.ofNat_mul a b).symm
theorem pk_div {a d : Nat} (ha : a < 2 ^ 31) (h0 : 0 < d) (hd : d < 2 ^ 31) : nI a / nI d = nI (a / d) := by
  apply Int32.toInt_inj.mp
  rw [lg_idiv_nonneg (by rw [nI_toInt ha]; omega) (by rw [nI_toInt hd]; omega), nI_toInt ha, nI_toInt hd, nI_toInt (Nat.lt_of_le_of_lt (Nat.div_le_self a d) ha)]
  first | rfl | exact (Int.natCast_ediv _ _).symm
theorem pk_rem {a d : Nat} (ha : a < 2 ^ 31) (h0 : 0 < d) (hd : d < 2 ^ 31) : nI a - nI a / nI d * nI d = nI (a % d) := by
  rw [pk_div ha h0 hd, pk_mul, pk_sub (Nat.div_mul_le_self a d)]
  exact congrArg nI (by have := Nat.div_add_mod' a d; omega)
theorem pk_ix (x : Int32) {n : Nat} (hn : n < 2 ^ 31) : x < 0 ∨ nI n ≤ x ∨ ∃ j : Nat, j < n ∧ x = nI j := by
  by_cases h : x < 0
  · exact Or.inl h
  · obtain ⟨j, hj, rfl⟩ := nI_of h
    by_cases h2 : j < n
    · exact Or.inr (Or.inr ⟨j, h2, rfl⟩)
    · exact Or.inr (Or.inl (nI_le (by omega) hj))
theorem pk_le {x y : Int32} {A B : Prop} (a b : Nat) (f : a ≤ b → A) (g : b < a → B) (hx : x = nI a := by rfl) (hy : y = nI b := by rfl) (ha : a < 2 ^ 31 := by omega) (hb : b < 2 ^ 31 := by omega) : (x ≤ y → A) ∧ (¬ x ≤ y → B) := by
  subst hx hy
  rw [nI_leI ha hb]
  exact ⟨f, fun z => g (by omega)⟩
theorem pk_lt {x y : Int32} {A B : Prop} (a b : Nat) (f : a < b → A) (g : b ≤ a → B) (hx : x = nI a := by rfl) (hy : y = nI b := by rfl) (ha : a < 2 ^ 31 := by omega) (hb : b < 2 ^ 31 := by omega) : (x < y → A) ∧ (¬ x < y → B) := by
  subst hx hy
  rw [nI_ltI ha hb]
  exact ⟨f, fun z => g (by omega)⟩
theorem pk_eq {x y : Int32} {A B : Prop} (a b : Nat) (f : a = b → A) (g : a ≠ b → B) (hx : x = nI a := by rfl) (hy : y = nI b := by rfl) (ha : a < 2 ^ 31 := by omega) (hb : b < 2 ^ 31 := by omega) : (x = y → A) ∧ (¬ x = y → B) := by
  subst hx hy
  rw [nI_eq ha hb]
  exact ⟨f, g⟩
theorem pk_in {x : Int32} (n N : Nat) (h : n < N) (hx : x = nI n := by rfl) (hN : N < 2 ^ 31 := by omega) : vp_in x N := by
  subst hx
  exact vp_in_nI h hN
theorem pk_cl {x : Int32} (n : Nat) (hx : x = nI n := by rfl) (h : n < 2 ^ 31 := by omega) : x.toNatClampNeg = n := by
  subst hx
  exact nI_clamp h
theorem pk_tn {n : Nat} (h : n < 2 ^ 32) : (nI n).toBitVec.toNat = n := Nat.mod_eq_of_lt h
theorem pk_and (x : Int32) {m : Int32} (k : Nat) (hm : m.toBitVec.toNat = 2 ^ k - 1) : x &&& m = nI (x.toBitVec.toNat % 2 ^ k) := by
  apply Int32.toBitVec_inj.mp
  apply BitVec.eq_of_toNat_eq
  rw [Int32.toBitVec_and, BitVec.toNat_and, hm, Nat.and_two_pow_sub_one_eq_mod]
  show _ = (BitVec.ofNat 32 _).toNat
  rw [BitVec.toNat_ofNat]
  exact (Nat.mod_eq_of_lt (Nat.lt_of_le_of_lt (Nat.mod_le _ _) x.toBitVec.isLt)).symm
theorem pk_andN {n : Nat} (h : n < 2 ^ 32) {m : Int32} (k : Nat) (hm : m.toBitVec.toNat = 2 ^ k - 1) : nI n &&& m = nI (n % 2 ^ k) := by
  rw [pk_and _ k hm, pk_tn h]
theorem pk_andE (x : Int32) {m : Int32} (k : Nat) (hm : m.toBitVec.toNat = 2 ^ k - 1) : ∃ j : Nat, j < 2 ^ k ∧ x &&& m = nI j := ⟨_, Nat.mod_lt _ (Nat.two_pow_pos k), pk_and x k hm⟩
theorem pk_shl (a s : Int32) (k : Nat) (hs : (s.toBitVec.smod 32).toNat = k) : (a <<< s).toBitVec.toNat = a.toBitVec.toNat * 2 ^ k % 2 ^ 32 := by
  show (a.toBitVec <<< (s.toBitVec.smod 32).toNat).toNat = _
  rw [hs, BitVec.toNat_shiftLeft, Nat.shiftLeft_eq]
theorem pk_shlN {n : Nat} (s : Int32) (k : Nat) (hs : (s.toBitVec.smod 32).toNat = k) (h : n * 2 ^ k < 2 ^ 32) : nI n <<< s = nI (n * 2 ^ k) := by
  apply Int32.toBitVec_inj.mp
  apply BitVec.eq_of_toNat_eq
  have hn : n < 2 ^ 32 := Nat.lt_of_le_of_lt (Nat.le_mul_of_pos_right n (Nat.two_pow_pos k)) h
  rw [pk_shl _ _ k hs, pk_tn hn, pk_tn h, Nat.mod_eq_of_lt h]
theorem nb_us (f : Nat → Int32) (k : Nat) : upd f k (f k) = f := by
  funext j
  by_cases h : j = k
  · subst h; exact pk_us
  · exact pk_un h
theorem nb_ue {f : Nat → Int32} {k : Nat} {x : Int32} (h : f k = x) : upd f k x = f := by
  subst h; exact nb_us f k
theorem nb_i4 (a b : Nat) : nI a * 4 + nI b = nI (a * 4 + b) := by
  rw [← nI_add, ← pk_mul]; rfl
theorem nb_i8 (a b : Nat) : nI a * 8 + nI b = nI (a * 8 + b) := by
  rw [← nI_add, ← pk_mul]; rfl
theorem nb_m4 (a : Nat) : nI a * 4 = nI (a * 4) := by
  rw [← pk_mul]; rfl
theorem nb_d4 {a : Nat} (h : a < 2 ^ 31) : nI a / 4 = nI (a / 4) := pk_div (d := 4) h (by decide) (by decide)
theorem nb_r4 {a : Nat} (h : a < 2 ^ 31) : nI a - nI a / 4 * 4 = nI (a % 4) := pk_rem (d := 4) h (by decide) (by decide)
theorem nb_r2 {a : Nat} (h : a < 2 ^ 31) : nI a - nI a / 2 * 2 = nI (a % 2) := pk_rem (d := 2) h (by decide) (by decide)
theorem nb_n1 {a : Nat} (h : a < 2 ^ 31) : nI a ≠ -1 := by
  intro e
  have z := nI_pos h
  rw [e] at z
  exact z (by decide)
theorem nb_inj {a b : Nat} (ha : a < 2 ^ 31) (hb : b < 2 ^ 31) (e : nI a = nI b) : a = b := (nI_eq ha hb).mp e
theorem nb_neg : (-1 : Int32) < 0 := by decide
theorem nb_n0 : ¬ (4 : Int32) = 0 := by decide
theorem nb_n2 : ¬ (2 : Int32) = 0 := by decide
theorem nb_nar {x : Int32} (h : x = 0 ∨ x = 1) : vp_nar .boolean x = x := by
  rcases h with h | h <;> rw [h] <;> rfl
/-- the answer of 'apply' -/
def nb_ap (k o v : Int32) : Int32 := if k = 1 then v else if k = 2 then (o &&& 65280) ||| (v &&& 255) else if k = 3 then (o &&& 255) ||| ((v &&& 255) <<< ((8 : Int32) &&& 31)) else if k = 4 then (o + v) &&& 65535 else if k = 5 then (if o = 0 then v else o) else o
theorem nb_ap1 (o v : Int32) : nb_ap 1 o v = v := if_pos rfl
theorem nb_ap2 (o v : Int32) : nb_ap 2 o v = (o &&& 65280) ||| (v &&& 255) := by unfold nb_ap; rw [if_neg (by decide), if_pos rfl]
theorem nb_ap3 (o v : Int32) : nb_ap 3 o v = (o &&& 255) ||| ((v &&& 255) <<< ((8 : Int32) &&& 31)) := by unfold nb_ap; rw [if_neg (by decide), if_neg (by decide), if_pos rfl]
theorem nb_ap4 (o v : Int32) : nb_ap 4 o v = (o + v) &&& 65535 := by unfold nb_ap; rw [if_neg (by decide), if_neg (by decide), if_neg (by decide), if_pos rfl]
theorem nb_ap5 (o v : Int32) : nb_ap 5 o v = if o = 0 then v else o := by unfold nb_ap; rw [if_neg (by decide), if_neg (by decide), if_neg (by decide), if_neg (by decide), if_pos rfl]
theorem nb_ap0 {k : Int32} (o v : Int32) (h1 : ¬ k = 1) (h2 : ¬ k = 2) (h3 : ¬ k = 3) (h4 : ¬ k = 4) (h5 : ¬ k = 5) : nb_ap k o v = o := by unfold nb_ap; rw [if_neg h1, if_neg h2, if_neg h3, if_neg h4, if_neg h5]
/-- the word at a after the first i targets of register r -/
def nb_rp (ta tk tv rt : Nat → Int32) (r : Nat) (a m : Int32) : Nat → Int32
  | 0 => m
  | i + 1 => if ta (rt (r * 8 + i)).toNatClampNeg = a then nb_ap (tk (rt (r * 8 + i)).toNatClampNeg) (nb_rp ta tk tv rt r a m i) (tv (rt (r * 8 + i)).toNatClampNeg) else nb_rp ta tk tv rt r a m i
theorem nb_rpc {ta tk tv rt ta' tk' tv' rt' : Nat → Int32} {r : Nat} {a m : Int32} : ∀ {i : Nat}, (∀ j, j < i → rt' (r * 8 + j) = rt (r * 8 + j) ∧ ta' (rt (r * 8 + j)).toNatClampNeg = ta (rt (r * 8 + j)).toNatClampNeg ∧ tk' (rt (r * 8 + j)).toNatClampNeg = tk (rt (r * 8 + j)).toNatClampNeg ∧ tv' (rt (r * 8 + j)).toNatClampNeg = tv (rt (r * 8 + j)).toNatClampNeg) → nb_rp ta' tk' tv' rt' r a m i = nb_rp ta tk tv rt r a m i
  | 0, _ => rfl
  | i + 1, h => by
    have ih := nb_rpc (ta := ta) (tk := tk) (tv := tv) (rt := rt) (ta' := ta') (tk' := tk') (tv' := tv') (rt' := rt') (r := r) (a := a) (m := m) (i := i) (fun j hj => h j (by omega))
    obtain ⟨h1, h2, h3, h4⟩ := h i (by omega)
    simp only [nb_rp, h1, h2, h3, h4, ih]
/-- the words of line d of dst, up to i of them, taken from line s of src -/
def nb_cp (dst : Nat → Int32) (d : Nat) (src : Nat → Int32) (s i : Nat) : Nat → Int32 := fun j => if d * 4 ≤ j ∧ j < d * 4 + i then src (s * 4 + (j - d * 4)) else dst j
theorem nb_cp0 (dst : Nat → Int32) (d : Nat) (src : Nat → Int32) (s : Nat) : nb_cp dst d src s 0 = dst := by
  funext j
  exact if_neg (by omega)
theorem nb_cps (dst : Nat → Int32) (d : Nat) (src : Nat → Int32) (s i : Nat) : upd (nb_cp dst d src s i) (d * 4 + i) (src (s * 4 + i)) = nb_cp dst d src s (i + 1) := by
  funext j
  simp only [upd, nb_cp]
  by_cases h : j = d * 4 + i
  · subst h
    rw [if_pos rfl, if_pos (by omega)]
    exact congrArg src (by omega)
  · rw [if_neg h]
    by_cases h2 : d * 4 ≤ j ∧ j < d * 4 + i
    · rw [if_pos h2, if_pos (by omega)]
    · rw [if_neg h2, if_neg (by omega)]
theorem nb_cpi {dst : Nat → Int32} {d : Nat} {src : Nat → Int32} {s i k : Nat} (h : k < i) : nb_cp dst d src s i (d * 4 + k) = src (s * 4 + k) := by
  unfold nb_cp
  rw [if_pos (by omega)]
  exact congrArg src (by omega)
theorem nb_cpx {dst : Nat → Int32} {d : Nat} {src : Nat → Int32} {s i k : Nat} (h : i ≤ k) : nb_cp dst d src s i (d * 4 + k) = dst (d * 4 + k) := by
  unfold nb_cp
  rw [if_neg (by omega)]
theorem nb_cpo {dst : Nat → Int32} {d : Nat} {src : Nat → Int32} {s e k : Nat} (h : e ≠ d) (hk : k < 4) : nb_cp dst d src s 4 (e * 4 + k) = dst (e * 4 + k) := by
  unfold nb_cp
  rw [if_neg (by omega)]
/-- how many of 0 .. n - 1 are so -/
def nb_cn (p : Nat → Bool) : Nat → Nat
  | 0 => 0
  | k + 1 => nb_cn p k + (if p k = true then 1 else 0)
theorem nb_cnle (p : Nat → Bool) : ∀ n, nb_cn p n ≤ n
  | 0 => Nat.le_refl _
  | n + 1 => by
    have := nb_cnle p n
    simp only [nb_cn]
    split <;> omega
theorem nb_cnlt {p : Nat → Bool} {a : Nat} (h : p a = false) : ∀ {n}, a < n → nb_cn p n < n
  | 0, z => absurd z (by omega)
  | n + 1, z => by
    simp only [nb_cn]
    by_cases e : a = n
    · subst e
      have := nb_cnle p a
      rw [h]
      simp only [Bool.false_eq_true, if_false]
      omega
    · have := nb_cnlt h (n := n) (by omega)
      split <;> omega
theorem nb_cnc {p q : Nat → Bool} : ∀ {n}, (∀ k, k < n → p k = q k) → nb_cn p n = nb_cn q n
  | 0, _ => rfl
  | n + 1, h => by
    simp only [nb_cn]
    rw [nb_cnc (n := n) (fun k hk => h k (by omega)), h n (by omega)]
theorem nb_cnup {p q : Nat → Bool} {a : Nat} (hp : p a = false) (hq : q a = true) : ∀ {n}, a < n → (∀ k, k < n → k ≠ a → q k = p k) → nb_cn q n = nb_cn p n + 1
  | 0, z, _ => absurd z (by omega)
  | n + 1, z, h => by
    simp only [nb_cn]
    by_cases e : a = n
    · subst e
      rw [nb_cnc (p := q) (q := p) (n := a) (fun k hk => h k (by omega) (by omega)), hp, hq]
      simp
    · rw [nb_cnup hp hq (n := n) (by omega) (fun k hk => h k (by omega)), h n (by omega) (by omega)]
      omega
theorem nb_cn0 {p : Nat → Bool} : ∀ {n}, (∀ k, k < n → p k = false) → nb_cn p n = 0
  | 0, _ => rfl
  | n + 1, h => by
    simp only [nb_cn]
    rw [nb_cn0 (n := n) (fun k hk => h k (by omega)), h n (by omega)]
    simp
theorem nb_cnpos {p : Nat → Bool} : ∀ {n}, nb_cn p n < n → ∃ k, k < n ∧ p k = false
  | 0, h => absurd h (by omega)
  | n + 1, h => by
    by_cases e : p n = true
    · simp only [nb_cn, e, if_true] at h
      obtain ⟨k, hk, e2⟩ := nb_cnpos (p := p) (n := n) (by omega)
      exact ⟨k, by omega, e2⟩
    · exact ⟨n, by omega, by simpa using e⟩
/-- a gap closed at a: what lay behind it moves up by one -/
def nb_sh (f : Nat → Int32) (a m : Nat) : Nat → Int32 := fun j => if a ≤ j ∧ j < m then f (j + 1) else f j
theorem nb_sh0 (f : Nat → Int32) (a : Nat) : nb_sh f a a = f := by
  funext j
  exact if_neg (by omega)
theorem nb_shs (f : Nat → Int32) {a m : Nat} (h : a ≤ m) : upd (nb_sh f a m) m (nb_sh f a m (m + 1)) = nb_sh f a (m + 1) := by
  funext j
  simp only [upd, nb_sh]
  by_cases e : j = m
  · subst e
    rw [if_pos rfl, if_neg (by omega), if_pos (by omega)]
  · rw [if_neg e]
    by_cases h2 : a ≤ j ∧ j < m
    · rw [if_pos h2, if_pos (by omega)]
    · rw [if_neg h2, if_neg (by omega)]
theorem nb_cnsh {p : Nat → Bool} {a : Nat} (hp : p a = false) : ∀ {n}, a < n + 1 → nb_cn (fun j => if a ≤ j then p (j + 1) else p j) n = nb_cn p (n + 1)
  | 0, z => by
    obtain rfl : a = 0 := by omega
    simp [nb_cn, hp]
  | n + 1, z => by
    by_cases e : a = n + 1
    · subst e
      rw [nb_cnc (q := p) (fun k hk => if_neg (by omega))]
      simp [nb_cn, hp]
    · have ih := nb_cnsh hp (n := n) (by omega)
      have e2 : (if a ≤ n then p (n + 1) else p n) = p (n + 1) := if_pos (by omega)
      show nb_cn (fun j => if a ≤ j then p (j + 1) else p j) n + (if (if a ≤ n then p (n + 1) else p n) = true then 1 else 0) = nb_cn p (n + 1) + (if p (n + 1) = true then 1 else 0)
      rw [ih, e2]
end
section
/-- where the lines are: each in at most one frame, slot or register -/
def nb_P (L wl R : Nat) (fl vl rl : Nat → Int32) : Prop :=
  (∀ f, f < 8 → fl f = -1 ∨ ∃ l, l < L ∧ fl f = nI l ∧ f / 4 = l % 2 ∧ f % 4 < 2 ^ wl) ∧
  (∀ s, s < 2 → vl s = -1 ∨ ∃ l, l < L ∧ vl s = nI l) ∧
  (∀ r, r < R → rl r = -1 ∨ ∃ l, l < L ∧ rl r = nI l) ∧
  (∀ f g l, f < 8 → g < 8 → l < L → fl f = nI l → fl g = nI l → f = g) ∧
  (∀ s t l, s < 2 → t < 2 → l < L → vl s = nI l → vl t = nI l → s = t) ∧
  (∀ r q l, r < R → q < R → l < L → rl r = nI l → rl q = nI l → r = q) ∧
  (∀ f s l, f < 8 → s < 2 → l < L → fl f = nI l → vl s = nI l → False) ∧
  (∀ f r l, f < 8 → r < R → l < L → fl f = nI l → rl r = nI l → False) ∧
  (∀ s r l, s < 2 → r < R → l < L → vl s = nI l → rl r = nI l → False)
/-- the content B of every line, wherever it is; targets of registers are not yet in it -/
def nb_S (L : Nat) (B mem fl dy fd vl vy vd : Nat → Int32) : Prop :=
  (∀ f l k, f < 8 → l < L → fl f = nI l → k < 4 → fd (f * 4 + k) = B (l * 4 + k) ∧ (dy f = 0 → mem (l * 4 + k) = B (l * 4 + k))) ∧
  (∀ s l k, s < 2 → l < L → vl s = nI l → k < 4 → vd (s * 4 + k) = B (l * 4 + k) ∧ (vy s = 0 → mem (l * 4 + k) = B (l * 4 + k))) ∧
  (∀ l k, l < L → (∀ f, f < 8 → fl f ≠ nI l) → (∀ s, s < 2 → vl s ≠ nI l) → k < 4 → mem (l * 4 + k) = B (l * 4 + k)) ∧
  (∀ f, f < 8 → dy f = 0 ∨ dy f = 1) ∧ (∀ s, s < 2 → vy s = 0 ∨ vy s = 1)
theorem nb_u (f : Nat → Int32) (k : Nat) (x : Int32) (j : Nat) : upd f k x j = if j = k then x else f j := rfl
theorem nb_l1 {L : Nat} (hL : L ≤ 32) {l : Nat} (h : l < L) : nI l ≠ -1 := nb_n1 (by omega)
theorem nb_li {L : Nat} (hL : L ≤ 32) {l m : Nat} (h : l < L) (h2 : m < L) (e : nI l = nI m) : l = m := nb_inj (by omega) (by omega) e
section
variable {L wl R : Nat} {fl vl rl : Nat → Int32}
theorem nb_Pe {f s : Nat} (hL : L ≤ 32) (h : nb_P L wl R fl vl rl) (hf : f < 8) (hs : s < 2) (hw : f % 4 < 2 ^ wl) (hv : ∀ l, l < L → vl s = nI l → f / 4 = l % 2) : nb_P L wl R (upd fl f (vl s)) (upd vl s (fl f)) rl := by
  obtain ⟨a1, a2, a3, a4, a5, a6, a7, a8, a9⟩ := h
  have hn := fun l h => nb_l1 hL (l := l) h
  refine ⟨?_, ?_, ?_, ?_, ?_, ?_, ?_, ?_, ?_⟩ <;> (try simp only [nb_u]) <;> grind
theorem nb_Pv {s : Nat} (hL : L ≤ 32) (h : nb_P L wl R fl vl rl) : nb_P L wl R fl (upd vl s (-1)) rl := by
  obtain ⟨a1, a2, a3, a4, a5, a6, a7, a8, a9⟩ := h
  have hn := fun l h => nb_l1 hL (l := l) h
  refine ⟨?_, ?_, ?_, ?_, ?_, ?_, ?_, ?_, ?_⟩ <;> (try simp only [nb_u]) <;> grind
theorem nb_Pf {f : Nat} (hL : L ≤ 32) (h : nb_P L wl R fl vl rl) : nb_P L wl R (upd fl f (-1)) vl rl := by
  obtain ⟨a1, a2, a3, a4, a5, a6, a7, a8, a9⟩ := h
  have hn := fun l h => nb_l1 hL (l := l) h
  refine ⟨?_, ?_, ?_, ?_, ?_, ?_, ?_, ?_, ?_⟩ <;> (try simp only [nb_u]) <;> grind
theorem nb_Pr {r : Nat} (hL : L ≤ 32) (h : nb_P L wl R fl vl rl) : nb_P L wl R fl vl (upd rl r (-1)) := by
  obtain ⟨a1, a2, a3, a4, a5, a6, a7, a8, a9⟩ := h
  have hn := fun l h => nb_l1 hL (l := l) h
  refine ⟨?_, ?_, ?_, ?_, ?_, ?_, ?_, ?_, ?_⟩ <;> (try simp only [nb_u]) <;> grind
theorem nb_Pm {f r l : Nat} (hL : L ≤ 32) (h : nb_P L wl R fl vl rl) (hf : f < 8) (hr : r < R) (hl : l < L) (hw : f % 4 < 2 ^ wl) (hv : f / 4 = l % 2) (he : fl f = -1) (hq : rl r = nI l) : nb_P L wl R (upd fl f (nI l)) vl (upd rl r (-1)) := by
  obtain ⟨a1, a2, a3, a4, a5, a6, a7, a8, a9⟩ := h
  have hn := fun l h => nb_l1 hL (l := l) h
  have hi := fun l m h g => nb_li hL (l := l) (m := m) h g
  refine ⟨?_, ?_, ?_, ?_, ?_, ?_, ?_, ?_, ?_⟩ <;> (try simp only [nb_u]) <;> grind
theorem nb_Po {r l : Nat} (hL : L ≤ 32) (h : nb_P L wl R fl vl rl) (hr : r < R) (hl : l < L) (hF : ∀ f, f < 8 → fl f ≠ nI l) (hV : ∀ s, s < 2 → vl s ≠ nI l) (hR : ∀ q, q < R → rl q ≠ nI l) : nb_P L wl R fl vl (upd rl r (nI l)) := by
  obtain ⟨a1, a2, a3, a4, a5, a6, a7, a8, a9⟩ := h
  have hn := fun l h => nb_l1 hL (l := l) h
  have hi := fun l m h g => nb_li hL (l := l) (m := m) h g
  refine ⟨?_, ?_, ?_, ?_, ?_, ?_, ?_, ?_, ?_⟩ <;> (try simp only [nb_u]) <;> grind
end
section
variable {L wl R : Nat} {B mem fl dy fd vl vy vd rl : Nat → Int32}
theorem nb_Se {f s : Nat} (hf : f < 8) (hs : s < 2) (h : nb_S L B mem fl dy fd vl vy vd) : nb_S L B mem (upd fl f (vl s)) (upd dy f (vy s)) (nb_cp fd f vd s 4) (upd vl s (fl f)) (upd vy s (dy f)) (nb_cp vd s fd f 4) := by
  obtain ⟨b1, b2, b3, b4, b5⟩ := h
  refine ⟨?_, ?_, ?_, ?_, ?_⟩
  · intro g l k hg hl e hk
    by_cases z : g = f
    · subst z
      rw [pk_us] at e
      rw [nb_cpi hk, pk_us]
      exact b2 s l k hs hl e hk
    · rw [pk_un z] at e
      rw [nb_cpo z hk, pk_un z]
      exact b1 g l k hg hl e hk
  · intro g l k hg hl e hk
    by_cases z : g = s
    · subst z
      rw [pk_us] at e
      rw [nb_cpi hk, pk_us]
      exact b1 f l k hf hl e hk
    · rw [pk_un z] at e
      rw [nb_cpo z hk, pk_un z]
      exact b2 g l k hg hl e hk
  · intro l k hl hF hV hk
    refine b3 l k hl (fun g hg e => ?_) (fun g hg e => ?_) hk
    · by_cases z : g = f
      · subst z
        exact hV s hs (by rw [pk_us]; exact e)
      · exact hF g hg (by rw [pk_un z]; exact e)
    · by_cases z : g = s
      · subst z
        exact hF f hf (by rw [pk_us]; exact e)
      · exact hV g hg (by rw [pk_un z]; exact e)
  · intro g hg
    by_cases z : g = f
    · subst z; rw [pk_us]; exact b5 s hs
    · rw [pk_un z]; exact b4 g hg
  · intro g hg
    by_cases z : g = s
    · subst z; rw [pk_us]; exact b4 f hf
    · rw [pk_un z]; exact b5 g hg
theorem nb_u0 {f : Nat → Int32} {k j N : Nat} {x : Int32} (h : ∀ i, i < N → f i = 0 ∨ f i = 1) (hx : x = 0 ∨ x = 1) (hj : j < N) : upd f k x j = 0 ∨ upd f k x j = 1 := by
  by_cases z : j = k
  · subst z; rw [pk_us]; exact hx
  · rw [pk_un z]; exact h j hj
theorem nb_Sd {s : Nat} {m' : Nat → Int32} (hL : L ≤ 32) (hs : s < 2) (hP : nb_P L wl R fl vl rl) (h : nb_S L B mem fl dy fd vl vy vd) (hm : (m' = mem ∧ (vl s = -1 ∨ vy s = 0)) ∨ (∃ l, l < L ∧ vl s = nI l ∧ m' = nb_cp mem l vd s 4)) : nb_S L B m' fl dy fd (upd vl s (-1)) (upd vy s 0) vd := by
  obtain ⟨a1, a2, a3, a4, a5, a6, a7, a8, a9⟩ := hP
  obtain ⟨b1, b2, b3, b4, b5⟩ := h
  have key : ∀ l k, l < L → k < 4 → vl s ≠ nI l → m' (l * 4 + k) = mem (l * 4 + k) := by
    intro l k hl hk e
    rcases hm with ⟨rfl, _⟩ | ⟨q, hq, eq, rfl⟩
    · rfl
    · exact nb_cpo (fun z => e (by rw [eq, z])) hk
  have key2 : ∀ l k, l < L → k < 4 → vl s = nI l → m' (l * 4 + k) = B (l * 4 + k) := by
    intro l k hl hk e
    rcases hm with ⟨rfl, z | z⟩ | ⟨q, hq, eq, rfl⟩
    · exact absurd (e.symm.trans z) (nb_l1 hL hl)
    · exact (b2 s l k hs hl e hk).2 z
    · obtain rfl := nb_li hL hq hl (eq.symm.trans e)
      rw [nb_cpi hk]
      exact (b2 s q k hs hl e hk).1
  refine ⟨?_, ?_, ?_, b4, fun g hg => nb_u0 b5 (Or.inl rfl) hg⟩
  · intro f l k hf hl e hk
    rw [key l k hl hk (fun z => a7 f s l hf hs hl e z)]
    exact b1 f l k hf hl e hk
  · intro g l k hg hl e hk
    by_cases z : g = s
    · subst z
      rw [pk_us] at e
      exact absurd e.symm (nb_l1 hL hl)
    · rw [pk_un z] at e
      rw [pk_un z, key l k hl hk (fun y => z (a5 g s l hg hs hl e y))]
      exact b2 g l k hg hl e hk
  · intro l k hl hF hV hk
    by_cases e : vl s = nI l
    · exact key2 l k hl hk e
    · rw [key l k hl hk e]
      refine b3 l k hl hF (fun g hg y => ?_) hk
      by_cases z : g = s
      · subst z; exact e y
      · exact hV g hg (by rw [pk_un z]; exact y)
theorem nb_Sc {f : Nat} {m' : Nat → Int32} (hL : L ≤ 32) (hf : f < 8) (hP : nb_P L wl R fl vl rl) (h : nb_S L B mem fl dy fd vl vy vd) (hm : (m' = mem ∧ (fl f = -1 ∨ dy f = 0)) ∨ (∃ l, l < L ∧ fl f = nI l ∧ m' = nb_cp mem l fd f 4)) : nb_S L B m' fl (upd dy f 0) fd vl vy vd ∧ ∀ l k, l < L → k < 4 → fl f = nI l → m' (l * 4 + k) = B (l * 4 + k) := by
  obtain ⟨a1, a2, a3, a4, a5, a6, a7, a8, a9⟩ := hP
  obtain ⟨b1, b2, b3, b4, b5⟩ := h
  have key : ∀ l k, l < L → k < 4 → fl f ≠ nI l → m' (l * 4 + k) = mem (l * 4 + k) := by
    intro l k hl hk e
    rcases hm with ⟨rfl, _⟩ | ⟨q, hq, eq, rfl⟩
    · rfl
    · exact nb_cpo (fun z => e (by rw [eq, z])) hk
  have key2 : ∀ l k, l < L → k < 4 → fl f = nI l → m' (l * 4 + k) = B (l * 4 + k) := by
    intro l k hl hk e
    rcases hm with ⟨rfl, z | z⟩ | ⟨q, hq, eq, rfl⟩
    · exact absurd (e.symm.trans z) (nb_l1 hL hl)
    · exact (b1 f l k hf hl e hk).2 z
    · obtain rfl := nb_li hL hq hl (eq.symm.trans e)
      rw [nb_cpi hk]
      exact (b1 f q k hf hl e hk).1
  refine ⟨⟨?_, ?_, ?_, fun g hg => nb_u0 b4 (Or.inl rfl) hg, b5⟩, key2⟩
  · intro g l k hg hl e hk
    by_cases z : g = f
    · subst z
      exact ⟨(b1 g l k hg hl e hk).1, fun _ => key2 l k hl hk e⟩
    · rw [pk_un z, key l k hl hk (fun y => z (a4 g f l hg hf hl e y))]
      exact b1 g l k hg hl e hk
  · intro s l k hs hl e hk
    rw [key l k hl hk (fun z => a7 f s l hf hs hl z e)]
    exact b2 s l k hs hl e hk
  · intro l k hl hF hV hk
    rw [key l k hl hk (hF f hf)]
    exact b3 l k hl hF hV hk
theorem nb_Sf {f : Nat} (hL : L ≤ 32) (hf : f < 8) (h : nb_S L B mem fl dy fd vl vy vd) (hd : ∀ l k, l < L → k < 4 → fl f = nI l → mem (l * 4 + k) = B (l * 4 + k)) : nb_S L B mem (upd fl f (-1)) dy fd vl vy vd := by
  obtain ⟨b1, b2, b3, b4, b5⟩ := h
  refine ⟨?_, b2, ?_, b4, b5⟩
  · intro g l k hg hl e hk
    by_cases z : g = f
    · subst z
      rw [pk_us] at e
      exact absurd e.symm (nb_l1 hL hl)
    · rw [pk_un z] at e
      exact b1 g l k hg hl e hk
  · intro l k hl hF hV hk
    by_cases e : fl f = nI l
    · exact hd l k hl hk e
    · refine b3 l k hl (fun g hg y => ?_) hV hk
      by_cases z : g = f
      · subst z; exact e y
      · exact hF g hg (by rw [pk_un z]; exact y)
theorem nb_Sl {f l : Nat} (hL : L ≤ 32) (hf : f < 8) (hl : l < L) (h : nb_S L B mem fl dy fd vl vy vd) (he : fl f = -1) (hF : ∀ g, g < 8 → fl g ≠ nI l) (hV : ∀ s, s < 2 → vl s ≠ nI l) : nb_S L B mem (upd fl f (nI l)) (upd dy f 0) (nb_cp fd f mem l 4) vl vy vd := by
  obtain ⟨b1, b2, b3, b4, b5⟩ := h
  refine ⟨?_, b2, ?_, fun g hg => nb_u0 b4 (Or.inl rfl) hg, b5⟩
  · intro g q k hg hq e hk
    by_cases z : g = f
    · subst z
      rw [pk_us] at e
      obtain rfl := nb_li hL hl hq e
      rw [nb_cpi hk]
      have y := b3 l k hl hF hV hk
      exact ⟨y, fun _ => y⟩
    · rw [pk_un z] at e
      rw [nb_cpo z hk, pk_un z]
      exact b1 g q k hg hq e hk
  · intro q k hq hF' hV' hk
    refine b3 q k hq (fun g hg y => ?_) hV' hk
    by_cases z : g = f
    · subst z
      exact nb_l1 hL hq (y.symm.trans he)
    · exact hF' g hg (by rw [pk_un z]; exact y)
theorem nb_Sw {f l k : Nat} {x : Int32} {dy' : Nat → Int32} (hL : L ≤ 32) (hf : f < 8) (hl : l < L) (hk : k < 4) (hP4 : ∀ f g l, f < 8 → g < 8 → l < L → fl f = nI l → fl g = nI l → f = g) (hP7 : ∀ f s l, f < 8 → s < 2 → l < L → fl f = nI l → vl s = nI l → False) (h : nb_S L B mem fl dy fd vl vy vd) (he : fl f = nI l) (hd : (dy' = dy ∧ x = B (l * 4 + k)) ∨ dy' = upd dy f 1) : nb_S L (upd B (l * 4 + k) x) mem fl dy' (upd fd (f * 4 + k) x) vl vy vd := by
  obtain ⟨b1, b2, b3, b4, b5⟩ := h
  have key : ∀ q j, q ≠ l → j < 4 → upd B (l * 4 + k) x (q * 4 + j) = B (q * 4 + j) := fun q j hq hj => pk_un (by omega)
  refine ⟨?_, ?_, ?_, ?_, b5⟩
  · intro g q j hg hq e hj
    by_cases z : g = f
    · subst z
      obtain rfl := nb_li hL hl hq (he.symm.trans e)
      by_cases y : j = k
      · subst y
        rw [pk_us, pk_us]
        refine ⟨rfl, fun d => ?_⟩
        rcases hd with ⟨rfl, rfl⟩ | rfl
        · exact (b1 g l j hg hl e hj).2 d
        · rw [pk_us] at d
          exact absurd d (by decide)
      · rw [pk_un (by omega), pk_un (by omega)]
        refine ⟨(b1 g l j hg hl e hj).1, fun d => ?_⟩
        rcases hd with ⟨rfl, rfl⟩ | rfl
        · exact (b1 g l j hg hl e hj).2 d
        · rw [pk_us] at d
          exact absurd d (by decide)
    · have ne : q ≠ l := fun y => z (hP4 g f l hg hf hl (by rw [← y]; exact e) he)
      rw [key q j ne hj, pk_un (by omega)]
      refine ⟨(b1 g q j hg hq e hj).1, fun d => (b1 g q j hg hq e hj).2 ?_⟩
      rcases hd with ⟨rfl, _⟩ | rfl
      · exact d
      · rw [pk_un z] at d
        exact d
  · intro s q j hs hq e hj
    have ne : q ≠ l := fun y => hP7 f s l hf hs hl he (by rw [← y]; exact e)
    rw [key q j ne hj]
    exact b2 s q j hs hq e hj
  · intro q j hq hF hV hj
    have ne : q ≠ l := fun y => hF f hf (by rw [y]; exact he)
    rw [key q j ne hj]
    exact b3 q j hq hF hV hj
  · intro g hg
    rcases hd with ⟨rfl, _⟩ | rfl
    · exact b4 g hg
    · exact nb_u0 b4 (Or.inr rfl) hg
end
end
section
/-- registers, their targets, and the tags: word is the reference's, B the content without pending targets; G: what a live tag's request answers, Wt: whether it waits; Cw: how many wait on a held line -/
def nb_Q (L R T : Nat) (word kept held G Wt : Nat → Int32) (Cw : Nat → Nat) (hc : Nat) (B rl rh rc rt ta tk tv tr tg : Nat → Int32) : Prop :=
  (∀ r, r < R → (rh r = 0 ∨ rh r = 1) ∧ (rl r = -1 → rh r = 0)) ∧
  (∀ r l, r < R → l < L → rl r = nI l → ∃ c, c ≤ T ∧ rc r = nI c ∧
    (∀ i, i < c → ∃ t a, t < 16 ∧ a < L * 4 ∧ rt (r * 8 + i) = nI t ∧ tg t = nI r ∧ ta t = nI a ∧ a / 4 = l ∧ G t = nb_rp ta tk tv rt r (nI a) (B a) i ∧ Wt t = rh r) ∧
    (∀ i j, i < c → j < c → rt (r * 8 + i) = rt (r * 8 + j) → i = j) ∧
    (∀ k, k < 4 → word (l * 4 + k) = nb_rp ta tk tv rt r (nI (l * 4 + k)) (B (l * 4 + k)) c) ∧
    held l = rh r ∧ (rh r ≠ 0 → c = Cw l ∧ ∀ k, k < 4 → kept (l * 4 + k) = B (l * 4 + k))) ∧
  (∀ l k, l < L → (∀ r, r < R → rl r ≠ nI l) → k < 4 → word (l * 4 + k) = B (l * 4 + k)) ∧
  (∀ l, l < L → (∀ r, r < R → rl r ≠ nI l) → held l = 0) ∧
  (∀ t, t < 16 → ta t = -1 ∨ ∃ a, a < L * 4 ∧ ta t = nI a) ∧
  (∀ t, t < 16 → tg t = -1 ∨ ∃ r l c i, r < R ∧ l < L ∧ c ≤ T ∧ i < c ∧ tg t = nI r ∧ rl r = nI l ∧ rc r = nI c ∧ rt (r * 8 + i) = nI t) ∧
  (∀ t, t < 16 → ta t ≠ -1 → tg t = -1 → G t = tr t ∧ Wt t = 0) ∧
  nb_cn (fun r => decide (rh r ≠ 0)) R = hc
section
variable {L R T hc : Nat} {Cw : Nat → Nat} {word kept held G Wt B rl rh rc rt ta tk tv tr tg : Nat → Int32}
theorem nb_a4 (a : Nat) : a / 4 * 4 + a % 4 = a := by omega
/-- a tag that lies in a register: where -/
theorem nb_Qt {t : Nat} (hT : T ≤ 8) (hL : L ≤ 32) (h : nb_Q L R T word kept held G Wt Cw hc B rl rh rc rt ta tk tv tr tg) (ht : t < 16) (z : tg t ≠ -1) : ∃ r l c i a, r < R ∧ l < L ∧ c ≤ T ∧ i < c ∧ a < L * 4 ∧ tg t = nI r ∧ rl r = nI l ∧ rc r = nI c ∧ rt (r * 8 + i) = nI t ∧ ta t = nI a ∧ a / 4 = l ∧ G t = nb_rp ta tk tv rt r (nI a) (B a) i ∧ Wt t = rh r := by
  obtain ⟨q1, q2, q3, q4, q5, q6, q7, q8⟩ := h
  rcases q6 t ht with y | ⟨q, m, c', i, v1, v2, v3, v4, v5, v6, v7, v8⟩
  · exact absurd y z
  · obtain ⟨c2, w1, w2, w3, w4, w5, w6, w7⟩ := q2 q m v1 v2 v6
    obtain rfl := nb_inj (by omega) (by omega) (v7.symm.trans w2)
    obtain ⟨t', a, x1, x2, x3, x4, x5, x6, x7, x8⟩ := w3 i v4
    obtain rfl := nb_inj (by omega) (by omega) (v8.symm.trans x3)
    exact ⟨q, m, c', i, a, v1, v2, v3, v4, x2, v5, v6, v7, v8, x5, x6, x7, x8⟩
theorem nb_Qr {r l c : Nat} {B' tr' tg' : Nat → Int32} (hL : L ≤ 32) (hR : R ≤ 8) (hT : T ≤ 8) (hP : ∀ r q l, r < R → q < R → l < L → rl r = nI l → rl q = nI l → r = q) (h : nb_Q L R T word kept held G Wt Cw hc B rl rh rc rt ta tk tv tr tg) (hr : r < R) (hl : l < L) (e : rl r = nI l) (hh : rh r = 0) (hc8 : c ≤ 8) (ec : rc r = nI c)
    (hB : ∀ q k, q < L → k < 4 → B' (q * 4 + k) = if q = l then nb_rp ta tk tv rt r (nI (q * 4 + k)) (B (q * 4 + k)) c else B (q * 4 + k))
    (h1 : ∀ t, t < 16 → tg t = nI r → tr' t = G t ∧ tg' t = -1) (h2 : ∀ t, t < 16 → tg t ≠ nI r → tr' t = tr t ∧ tg' t = tg t) : nb_Q L R T word kept held G Wt Cw hc B' (upd rl r (-1)) rh (upd rc r 0) rt ta tk tv tr' tg' := by
  have hQ := h
  obtain ⟨q1, q2, q3, q4, q5, q6, q7, q8⟩ := h
  have no : ∀ m, m < L → m ≠ l → (∀ q, q < R → upd rl r (-1) q ≠ nI m) → ∀ q, q < R → rl q ≠ nI m := by
    intro m hm ne hn q hq y
    by_cases z : q = r
    · subst z
      exact ne (nb_li hL hm hl (y.symm.trans e))
    · exact hn q hq (by rw [pk_un z]; exact y)
  refine ⟨?_, ?_, ?_, ?_, q5, ?_, ?_, q8⟩
  · intro q hq
    refine ⟨(q1 q hq).1, fun y => ?_⟩
    by_cases z : q = r
    · subst z; exact hh
    · rw [pk_un z] at y
      exact (q1 q hq).2 y
  · intro q m hq hm y
    by_cases z : q = r
    · subst z
      rw [pk_us] at y
      exact absurd y.symm (nb_l1 hL hm)
    · rw [pk_un z] at y
      have ne : m ≠ l := fun x => z (hP q r l hq hr hl (by rw [← x]; exact y) e)
      obtain ⟨c', w1, w2, w3, w4, w5, w6, w7⟩ := q2 q m hq hm y
      have eB : ∀ k, k < 4 → B' (m * 4 + k) = B (m * 4 + k) := fun k hk => by rw [hB m k hm hk, if_neg ne]
      refine ⟨c', w1, by rw [pk_un z]; exact w2, ?_, w4, ?_, w6, ?_⟩
      · intro i hi
        obtain ⟨t, a, v1, v2, v3, v4, v5, v6, v7, v8⟩ := w3 i hi
        have nr : tg t ≠ nI r := by
          rw [v4]; exact fun x => z (nb_inj (by omega) (by omega) x)
        refine ⟨t, a, v1, v2, v3, by rw [(h2 t v1 nr).2]; exact v4, v5, v6, ?_, v8⟩
        have := eB (a % 4) (by omega)
        rw [← v6, nb_a4] at this
        rw [this]; exact v7
      · intro k hk
        rw [eB k hk]; exact w5 k hk
      · intro x
        refine ⟨(w7 x).1, fun k hk => ?_⟩
        rw [eB k hk]; exact (w7 x).2 k hk
  · intro m k hm hn hk
    rw [hB m k hm hk]
    by_cases z : m = l
    · subst z
      rw [if_pos rfl]
      obtain ⟨c', w1, w2, w3, w4, w5, w6, w7⟩ := q2 r m hr hm e
      obtain rfl := nb_inj (by omega) (by omega) (ec.symm.trans w2)
      exact w5 k hk
    · rw [if_neg z]
      exact q3 m k hm (no m hm z hn) hk
  · intro m hm hn
    by_cases z : m = l
    · subst z
      obtain ⟨c', w1, w2, w3, w4, w5, w6, w7⟩ := q2 r m hr hm e
      rw [w6]; exact hh
    · exact q4 m hm (no m hm z hn)
  · intro t ht
    by_cases z : tg t = nI r
    · exact Or.inl (h1 t ht z).2
    · rw [(h2 t ht z).2]
      rcases q6 t ht with y | ⟨q, m, c', i, v1, v2, v3, v4, v5, v6, v7, v8⟩
      · exact Or.inl y
      · have ne : q ≠ r := fun x => z (by rw [v5, x])
        exact Or.inr ⟨q, m, c', i, v1, v2, v3, v4, v5, by rw [pk_un ne]; exact v6, by rw [pk_un ne]; exact v7, v8⟩
  · intro t ht y1 y2
    by_cases z : tg t = nI r
    · refine ⟨(h1 t ht z).1.symm, ?_⟩
      obtain ⟨q, m, c', i, a, v1, v2, v3, v4, v5, v6, v7, v8, v9, va, vb, vc, vd⟩ := nb_Qt hT hL hQ ht (by rw [z]; exact nb_n1 (by omega))
      obtain rfl := nb_inj (by omega) (by omega) (z.symm.trans v6)
      rw [vd]; exact hh
    · rw [(h2 t ht z).2] at y2
      rw [(h2 t ht z).1]
      exact q7 t ht y1 y2
theorem nb_Qo {r l : Nat} (hL : L ≤ 32) (h : nb_Q L R T word kept held G Wt Cw hc B rl rh rc rt ta tk tv tr tg) (hr : r < R) (hl : l < L) (e : rl r = -1) (hn : ∀ q, q < R → rl q ≠ nI l) : nb_Q L R T word kept held G Wt Cw hc B (upd rl r (nI l)) (upd rh r 0) (upd rc r 0) rt ta tk tv tr tg := by
  obtain ⟨q1, q2, q3, q4, q5, q6, q7, q8⟩ := h
  rw [nb_ue ((q1 r hr).2 e)]
  have no : ∀ m, m < L → (∀ q, q < R → upd rl r (nI l) q ≠ nI m) → ∀ q, q < R → rl q ≠ nI m := by
    intro m hm hn q hq y
    by_cases z : q = r
    · subst z
      exact nb_l1 hL hm (y.symm.trans e)
    · exact hn q hq (by rw [pk_un z]; exact y)
  refine ⟨?_, ?_, ?_, ?_, q5, ?_, q7, q8⟩
  · intro q hq
    refine ⟨(q1 q hq).1, fun y => ?_⟩
    by_cases z : q = r
    · subst z
      rw [pk_us] at y
      exact absurd y (nb_l1 hL hl)
    · rw [pk_un z] at y
      exact (q1 q hq).2 y
  · intro q m hq hm y
    by_cases z : q = r
    · subst z
      rw [pk_us] at y
      obtain rfl := nb_li hL hl hm y
      refine ⟨0, Nat.zero_le _, by rw [pk_us, nI_0], fun i hi => absurd hi (by omega), fun i j hi => absurd hi (by omega), fun k hk => q3 l k hl hn hk, ?_, fun x => absurd ((q1 q hq).2 e) x⟩
      rw [(q1 q hq).2 e]
      exact q4 l hl hn
    · rw [pk_un z] at y
      rw [pk_un z]
      exact q2 q m hq hm y
  · intro m k hm hn' hk
    exact q3 m k hm (no m hm hn') hk
  · intro m hm hn'
    exact q4 m hm (no m hm hn')
  · intro t ht
    rcases q6 t ht with y | ⟨q, m, c', i, v1, v2, v3, v4, v5, v6, v7, v8⟩
    · exact Or.inl y
    · have ne : q ≠ r := fun x => nb_l1 hL v2 (v6.symm.trans (by rw [x]; exact e))
      exact Or.inr ⟨q, m, c', i, v1, v2, v3, v4, v5, by rw [pk_un ne]; exact v6, by rw [pk_un ne]; exact v7, v8⟩
theorem nb_Qh {r l : Nat} (hL : L ≤ 32) (hT : T ≤ 8) (hP : ∀ r q l, r < R → q < R → l < L → rl r = nI l → rl q = nI l → r = q) (h : nb_Q L R T word kept held G Wt Cw hc B rl rh rc rt ta tk tv tr tg) (hr : r < R) (hl : l < L) (e : rl r = nI l) (hh : rh r = 0) (ec : rc r = 0) (hC : Cw l = 0) : nb_Q L R T word (nb_cp kept l word l 4) (upd held l 1) G Wt Cw (hc + 1) B rl (upd rh r 1) rc rt ta tk tv tr tg := by
  obtain ⟨q1, q2, q3, q4, q5, q6, q7, q8⟩ := h
  refine ⟨?_, ?_, q3, ?_, q5, q6, q7, ?_⟩
  · intro q hq
    refine ⟨nb_u0 (N := R) (fun i hi => (q1 i hi).1) (Or.inr rfl) hq, fun y => ?_⟩
    have ne : q ≠ r := fun x => nb_l1 hL hl (e.symm.trans (by rw [← x]; exact y))
    rw [pk_un ne]
    exact (q1 q hq).2 y
  · intro q m hq hm y
    obtain ⟨c', w1, w2, w3, w4, w5, w6, w7⟩ := q2 q m hq hm y
    by_cases z : q = r
    · subst z
      obtain rfl := nb_li hL hl hm (e.symm.trans y)
      have c0 : c' = 0 := nb_inj (by omega) (by omega) (by rw [← w2, ec, nI_0])
      subst c0
      refine ⟨0, w1, w2, fun i hi => absurd hi (by omega), fun i j hi => absurd hi (by omega), w5, ?_, fun x => ⟨hC.symm, fun k hk => ?_⟩⟩
      · rw [pk_us, pk_us]
      · rw [nb_cpi hk]
        exact w5 k hk
    · have ne : m ≠ l := fun x => z (hP q r l hq hr hl (by rw [← x]; exact y) e)
      rw [pk_un z]
      refine ⟨c', w1, w2, w3, w4, w5, by rw [pk_un ne]; exact w6, fun x => ⟨(w7 x).1, fun k hk => ?_⟩⟩
      rw [nb_cpo ne hk]
      exact (w7 x).2 k hk
  · intro m hm hn
    have ne : m ≠ l := fun x => hn r hr (by rw [x]; exact e)
    rw [pk_un ne]
    exact q4 m hm hn
  · rw [nb_cnup (p := fun r => decide (rh r ≠ 0)) (a := r) (by simp [hh]) (by simp [pk_us]) hr (fun k _ hk => by simp only [pk_un hk]), q8]
theorem nb_Qz {r l hc' : Nat} (hL : L ≤ 32) (hP : ∀ r q l, r < R → q < R → l < L → rl r = nI l → rl q = nI l → r = q) (h : nb_Q L R T word kept held G Wt Cw hc B rl rh rc rt ta tk tv tr tg) (hr : r < R) (hl : l < L) (e : rl r = nI l) (hh : rh r ≠ 0) (eh : hc = hc' + 1) : nb_Q L R T word kept (upd held l 0) G (fun t => if (ta t).toNatClampNeg / 4 = l then 0 else Wt t) Cw hc' B rl (upd rh r 0) rc rt ta tk tv tr tg := by
  obtain ⟨q1, q2, q3, q4, q5, q6, q7, q8⟩ := h
  refine ⟨?_, ?_, q3, ?_, q5, q6, ?_, ?_⟩
  · intro q hq
    refine ⟨nb_u0 (N := R) (fun i hi => (q1 i hi).1) (Or.inl rfl) hq, fun y => ?_⟩
    by_cases z : q = r
    · subst z; exact pk_us
    · rw [pk_un z]
      exact (q1 q hq).2 y
  · intro q m hq hm y
    obtain ⟨c', w1, w2, w3, w4, w5, w6, w7⟩ := q2 q m hq hm y
    by_cases z : q = r
    · subst z
      obtain rfl := nb_li hL hl hm (e.symm.trans y)
      refine ⟨c', w1, w2, fun i hi => ?_, w4, w5, ?_, fun x => absurd pk_us x⟩
      · obtain ⟨t, a, v1, v2, v3, v4, v5, v6, v7, v8⟩ := w3 i hi
        refine ⟨t, a, v1, v2, v3, v4, v5, v6, v7, ?_⟩
        show (if (ta t).toNatClampNeg / 4 = l then 0 else Wt t) = _
        rw [pk_us, v5, nI_clamp (by omega), if_pos v6]
      · rw [pk_us, pk_us]
    · have ne : m ≠ l := fun x => z (hP q r l hq hr hl (by rw [← x]; exact y) e)
      rw [pk_un z]
      refine ⟨c', w1, w2, fun i hi => ?_, w4, w5, by rw [pk_un ne]; exact w6, w7⟩
      obtain ⟨t, a, v1, v2, v3, v4, v5, v6, v7, v8⟩ := w3 i hi
      refine ⟨t, a, v1, v2, v3, v4, v5, v6, v7, ?_⟩
      show (if (ta t).toNatClampNeg / 4 = l then 0 else Wt t) = _
      rw [v5, nI_clamp (by omega), if_neg (by omega)]
      exact v8
  · intro m hm hn
    have ne : m ≠ l := fun x => hn r hr (by rw [x]; exact e)
    rw [pk_un ne]
    exact q4 m hm hn
  · intro t ht y1 y2
    refine ⟨(q7 t ht y1 y2).1, ?_⟩
    show (if (ta t).toNatClampNeg / 4 = l then 0 else Wt t) = 0
    rw [(q7 t ht y1 y2).2]
    split <;> rfl
  · have := nb_cnup (p := fun q => decide (upd rh r 0 q ≠ 0)) (q := fun q => decide (rh q ≠ 0)) (a := r) (n := R) (by simp [pk_us]) (by simp [hh]) hr (fun k _ hk => by simp only [pk_un hk])
    omega
theorem nb_Qm {r l c t a : Nat} {Cw' : Nat → Nat} (hL : L ≤ 32) (hR : R ≤ 8) (hT : T ≤ 8) (hP : ∀ r q l, r < R → q < R → l < L → rl r = nI l → rl q = nI l → r = q) (h : nb_Q L R T word kept held G Wt Cw hc B rl rh rc rt ta tk tv tr tg) (hr : r < R) (hl : l < L) (e : rl r = nI l) (ec : rc r = nI c) (hc8 : c < T) (ht : t < 16) (hta : ta t = nI a) (ha : a < L * 4) (hal : a / 4 = l) (htg : tg t = -1)
    (hC1 : ∀ q, q < L → q ≠ l → Cw' q = Cw q) (hC2 : rh r ≠ 0 → Cw' l = Cw l + 1) :
    nb_Q L R T (upd word a (nb_ap (tk t) (word a) (tv t))) kept held (upd G t (word a)) (upd Wt t (rh r)) Cw' hc B rl rh (upd rc r (nI (c + 1))) (upd rt (r * 8 + c) (nI t)) ta tk tv tr (upd tg t (nI r)) := by
  obtain ⟨q1, q2, q3, q4, q5, q6, q7, q8⟩ := h
  have nt : ∀ q t', q < R → tg t' = nI q → t' ≠ t := fun q t' hq y x => nb_n1 (a := q) (by omega) (y.symm.trans (by rw [x]; exact htg))
  have rr : ∀ q i, q < R → i < 8 → (q = r → i < c) → upd rt (r * 8 + c) (nI t) (q * 8 + i) = rt (q * 8 + i) := fun q i hq hi hx => pk_un (fun x => by
    have : q = r := by omega
    have := hx this
    omega)
  have rpe : ∀ q a' m i, q < R → i ≤ 8 → (q = r → i ≤ c) → nb_rp ta tk tv (upd rt (r * 8 + c) (nI t)) q a' m i = nb_rp ta tk tv rt q a' m i := fun q a' m i hq hi hx => nb_rpc (fun j hj => ⟨rr q j hq (by omega) (fun x => by have := hx x; omega), rfl, rfl, rfl⟩)
  refine ⟨q1, ?_, ?_, q4, q5, ?_, ?_, q8⟩
  · intro q m hq hm y
    obtain ⟨c', w1, w2, w3, w4, w5, w6, w7⟩ := q2 q m hq hm y
    by_cases z : q = r
    · subst z
      obtain rfl := nb_li hL hl hm (e.symm.trans y)
      obtain rfl := nb_inj (by omega) (by omega) (ec.symm.trans w2)
      have wa : word a = nb_rp ta tk tv rt q (nI a) (B a) c := by
        have := w5 (a % 4) (by omega)
        rw [← hal, nb_a4] at this
        exact this
      have last : upd rt (q * 8 + c) (nI t) (q * 8 + c) = nI t := pk_us
      refine ⟨c + 1, by omega, pk_us, ?_, ?_, ?_, w6, ?_⟩
      · intro i hi
        by_cases x : i = c
        · subst x
          refine ⟨t, a, ht, ha, last, pk_us, hta, hal, ?_, pk_us⟩
          rw [pk_us, rpe q _ _ _ hq (by omega) (fun _ => by omega)]
          exact wa
        · obtain ⟨t', a', v1, v2, v3, v4, v5, v6, v7, v8⟩ := w3 i (by omega)
          have ne := nt q t' hq v4
          refine ⟨t', a', v1, v2, by rw [rr q i hq (by omega) (fun _ => by omega)]; exact v3, by rw [pk_un ne]; exact v4, v5, v6, ?_, by rw [pk_un ne]; exact v8⟩
          rw [pk_un ne, rpe q _ _ _ hq (by omega) (fun _ => by omega)]
          exact v7
      · intro i j hi hj x
        by_cases xi : i = c
        · by_cases xj : j = c
          · omega
          · subst xi
            obtain ⟨t', a', v1, v2, v3, v4, v5, v6, v7, v8⟩ := w3 j (by omega)
            rw [last, rr q j hq (by omega) (fun _ => by omega), v3] at x
            exact absurd (nb_inj (by omega) (by omega) x).symm (nt q t' hq v4)
        · by_cases xj : j = c
          · subst xj
            obtain ⟨t', a', v1, v2, v3, v4, v5, v6, v7, v8⟩ := w3 i (by omega)
            rw [last, rr q i hq (by omega) (fun _ => by omega), v3] at x
            exact absurd (nb_inj (by omega) (by omega) x) (nt q t' hq v4)
          · rw [rr q i hq (by omega) (fun _ => by omega), rr q j hq (by omega) (fun _ => by omega)] at x
            exact w4 i j (by omega) (by omega) x
      · intro k hk
        rw [nb_rp, last, nI_clamp (by omega), hta, rpe q _ _ _ hq (by omega) (fun _ => by omega)]
        by_cases x : a = l * 4 + k
        · subst x
          rw [if_pos rfl, pk_us, wa]
        · rw [if_neg (fun y => x (nb_inj (by omega) (by omega) y)), pk_un (fun y => x y.symm)]
          exact w5 k hk
      · intro x
        have := hC2 x
        exact ⟨by rw [this, (w7 x).1], (w7 x).2⟩
    · have ne : m ≠ l := fun x => z (hP q r l hq hr hl (by rw [← x]; exact y) e)
      refine ⟨c', w1, by rw [pk_un z]; exact w2, ?_, ?_, ?_, w6, ?_⟩
      · intro i hi
        obtain ⟨t', a', v1, v2, v3, v4, v5, v6, v7, v8⟩ := w3 i hi
        have ne := nt q t' hq v4
        refine ⟨t', a', v1, v2, by rw [rr q i hq (by omega) (fun x => absurd x z)]; exact v3, by rw [pk_un ne]; exact v4, v5, v6, ?_, by rw [pk_un ne]; exact v8⟩
        rw [pk_un ne, rpe q _ _ _ hq (by omega) (fun x => absurd x z)]
        exact v7
      · intro i j hi hj x
        rw [rr q i hq (by omega) (fun x => absurd x z), rr q j hq (by omega) (fun x => absurd x z)] at x
        exact w4 i j hi hj x
      · intro k hk
        rw [pk_un (by omega), rpe q _ _ _ hq (by omega) (fun x => absurd x z)]
        exact w5 k hk
      · intro x
        rw [hC1 m hm ne]
        exact w7 x
  · intro m k hm hn hk
    have ne : m ≠ l := fun x => hn r hr (by rw [x]; exact e)
    rw [pk_un (by omega)]
    exact q3 m k hm hn hk
  · intro t' ht'
    by_cases x : t' = t
    · subst x
      exact Or.inr ⟨r, l, c + 1, c, hr, hl, by omega, by omega, pk_us, e, pk_us, pk_us⟩
    · rw [pk_un x]
      rcases q6 t' ht' with y | ⟨q, m, c', i, v1, v2, v3, v4, v5, v6, v7, v8⟩
      · exact Or.inl y
      · by_cases z : q = r
        · subst z
          obtain rfl := nb_inj (by omega) (by omega) (ec.symm.trans v7)
          exact Or.inr ⟨q, m, c + 1, i, v1, v2, by omega, by omega, v5, v6, pk_us, by rw [rr q i v1 (by omega) (fun _ => v4)]; exact v8⟩
        · exact Or.inr ⟨q, m, c', i, v1, v2, v3, v4, v5, v6, by rw [pk_un z]; exact v7, by rw [rr q i v1 (by omega) (fun x => absurd x z)]; exact v8⟩
  · intro t' ht' y1 y2
    by_cases x : t' = t
    · subst x
      rw [pk_us] at y2
      exact absurd y2 (nb_n1 (by omega))
    · rw [pk_un x] at y2
      rw [pk_un x, pk_un x]
      exact q7 t' ht' y1 y2
theorem nb_Qs {t a : Nat} (x : Int32) (hL : L ≤ 32) (hR : R ≤ 8) (h : nb_Q L R T word kept held G Wt Cw hc B rl rh rc rt ta tk tv tr tg) (ht : t < 16) (hta : ta t = nI a) (ha : a < L * 4) (htg : tg t = -1) (hn : ∀ q, q < R → rl q ≠ nI (a / 4)) : nb_Q L R T (upd word a x) kept held (upd G t (word a)) (upd Wt t 0) Cw hc (upd B a x) rl rh rc rt ta tk tv (upd tr t (word a)) (upd tg t (-1)) := by
  obtain ⟨q1, q2, q3, q4, q5, q6, q7, q8⟩ := h
  rw [nb_ue htg]
  have nt : ∀ q t', q < R → tg t' = nI q → t' ≠ t := fun q t' hq y x => nb_n1 (a := q) (by omega) (y.symm.trans (by rw [x]; exact htg))
  refine ⟨q1, ?_, ?_, q4, q5, q6, ?_, q8⟩
  · intro q m hq hm y
    obtain ⟨c', w1, w2, w3, w4, w5, w6, w7⟩ := q2 q m hq hm y
    have ne : m ≠ a / 4 := fun z => hn q hq (by rw [← z]; exact y)
    have eB : ∀ f : Nat → Int32, ∀ k, k < 4 → upd f a x (m * 4 + k) = f (m * 4 + k) := fun f k hk => pk_un (by omega)
    refine ⟨c', w1, w2, ?_, w4, ?_, w6, ?_⟩
    · intro i hi
      obtain ⟨t', a', v1, v2, v3, v4, v5, v6, v7, v8⟩ := w3 i hi
      have ne' := nt q t' hq v4
      refine ⟨t', a', v1, v2, v3, v4, v5, v6, ?_, by rw [pk_un ne']; exact v8⟩
      rw [pk_un ne', pk_un (f := B) (by omega)]
      exact v7
    · intro k hk
      rw [eB word k hk, eB B k hk]
      exact w5 k hk
    · intro z
      refine ⟨(w7 z).1, fun k hk => ?_⟩
      rw [eB B k hk]
      exact (w7 z).2 k hk
  · intro m k hm hn' hk
    by_cases z : m * 4 + k = a
    · rw [z, pk_us, pk_us]
    · rw [pk_un z, pk_un z]
      exact q3 m k hm hn' hk
  · intro t' ht' y1 y2
    by_cases z : t' = t
    · subst z
      rw [pk_us, pk_us, pk_us]
      exact ⟨rfl, rfl⟩
    · rw [pk_un z, pk_un z, pk_un z]
      exact q7 t' ht' y1 y2
theorem nb_Qw {a : Nat} (h : nb_Q L R T word kept held G Wt Cw hc B rl rh rc rt ta tk tv tr tg) (ha : a < L * 4) (hn : ∀ q, q < R → rl q ≠ nI (a / 4)) : word a = B a := by
  have := h.2.2.1 (a / 4) (a % 4) (by omega) hn (by omega)
  rw [nb_a4] at this
  exact this
theorem nb_Qg {t : Nat} (hL : L ≤ 32) (hT : T ≤ 8) (h : nb_Q L R T word kept held G Wt Cw hc B rl rh rc rt ta tk tv tr tg) (ht : t < 16) (e : ta t = -1) : tg t = -1 := by
  by_cases z : tg t = -1
  · exact z
  · obtain ⟨q, m, c', i, a, v1, v2, v3, v4, v5, v6, v7, v8, v9, va, vb, vc, vd⟩ := nb_Qt hT hL h ht z
    exact absurd (va.symm.trans e) (nb_n1 (by omega))
/-- a free tag is taken: for the present as a request that has been served -/
theorem nb_Qa {t a : Nat} {x y : Int32} (hL : L ≤ 32) (hT : T ≤ 8) (h : nb_Q L R T word kept held G Wt Cw hc B rl rh rc rt ta tk tv tr tg) (ht : t < 16) (e : ta t = -1) (ha : a < L * 4) : nb_Q L R T word kept held (upd G t (tr t)) (upd Wt t 0) Cw hc B rl rh rc rt (upd ta t (nI a)) (upd tk t x) (upd tv t y) tr tg := by
  have htg := nb_Qg hL hT h ht e
  obtain ⟨q1, q2, q3, q4, q5, q6, q7, q8⟩ := h
  refine ⟨q1, ?_, q3, q4, ?_, q6, ?_, q8⟩
  · intro q m hq hm z
    obtain ⟨c', w1, w2, w3, w4, w5, w6, w7⟩ := q2 q m hq hm z
    have nt : ∀ i, i < c' → ∃ t', t' < 16 ∧ rt (q * 8 + i) = nI t' ∧ t' ≠ t := by
      intro i hi
      obtain ⟨t', a', v1, v2, v3, v4, v5, v6, v7, v8⟩ := w3 i hi
      exact ⟨t', v1, v3, fun z => nb_n1 (a := a') (by omega) (v5.symm.trans (by rw [z]; exact e))⟩
    have rpe : ∀ a' m i, i ≤ c' → nb_rp (upd ta t (nI a)) (upd tk t x) (upd tv t y) rt q a' m i = nb_rp ta tk tv rt q a' m i := fun a' m i hi => nb_rpc (fun j hj => by
      obtain ⟨t', g1, g2, g3⟩ := nt j (by omega)
      rw [g2, nI_clamp (by omega)]
      exact ⟨rfl, pk_un g3, pk_un g3, pk_un g3⟩)
    refine ⟨c', w1, w2, ?_, w4, ?_, w6, w7⟩
    · intro i hi
      obtain ⟨t', a', v1, v2, v3, v4, v5, v6, v7, v8⟩ := w3 i hi
      have ne : t' ≠ t := fun z => nb_n1 (a := a') (by omega) (v5.symm.trans (by rw [z]; exact e))
      refine ⟨t', a', v1, v2, v3, v4, by rw [pk_un ne]; exact v5, v6, ?_, by rw [pk_un ne]; exact v8⟩
      rw [pk_un ne, rpe _ _ _ (by omega)]
      exact v7
    · intro k hk
      rw [rpe _ _ _ (by omega)]
      exact w5 k hk
  · intro t' ht'
    by_cases z : t' = t
    · subst z
      exact Or.inr ⟨a, ha, pk_us⟩
    · rw [pk_un z]
      exact q5 t' ht'
  · intro t' ht' y1 y2
    by_cases z : t' = t
    · subst z
      rw [pk_us, pk_us]
      exact ⟨rfl, rfl⟩
    · rw [pk_un z] at y1
      rw [pk_un z, pk_un z]
      exact q7 t' ht' y1 y2
/-- a served tag is given back -/
theorem nb_Qf {t : Nat} (hL : L ≤ 32) (hR : R ≤ 8) (hT : T ≤ 8) (h : nb_Q L R T word kept held G Wt Cw hc B rl rh rc rt ta tk tv tr tg) (ht : t < 16) (htg : tg t = -1) : nb_Q L R T word kept held G Wt Cw hc B rl rh rc rt (upd ta t (-1)) tk tv tr tg := by
  obtain ⟨q1, q2, q3, q4, q5, q6, q7, q8⟩ := h
  refine ⟨q1, ?_, q3, q4, ?_, q6, ?_, q8⟩
  · intro q m hq hm z
    obtain ⟨c', w1, w2, w3, w4, w5, w6, w7⟩ := q2 q m hq hm z
    have nt : ∀ i, i < c' → ∃ t', t' < 16 ∧ rt (q * 8 + i) = nI t' ∧ t' ≠ t := by
      intro i hi
      obtain ⟨t', a', v1, v2, v3, v4, v5, v6, v7, v8⟩ := w3 i hi
      exact ⟨t', v1, v3, fun z => nb_n1 (a := q) (by omega) (v4.symm.trans (by rw [z]; exact htg))⟩
    have rpe : ∀ a' m i, i ≤ c' → nb_rp (upd ta t (-1)) tk tv rt q a' m i = nb_rp ta tk tv rt q a' m i := fun a' m i hi => nb_rpc (fun j hj => by
      obtain ⟨t', g1, g2, g3⟩ := nt j (by omega)
      rw [g2, nI_clamp (by omega)]
      exact ⟨rfl, pk_un g3, rfl, rfl⟩)
    refine ⟨c', w1, w2, ?_, w4, ?_, w6, w7⟩
    · intro i hi
      obtain ⟨t', a', v1, v2, v3, v4, v5, v6, v7, v8⟩ := w3 i hi
      have ne : t' ≠ t := fun z => nb_n1 (a := q) (by omega) (v4.symm.trans (by rw [z]; exact htg))
      refine ⟨t', a', v1, v2, v3, v4, by rw [pk_un ne]; exact v5, v6, ?_, v8⟩
      rw [rpe _ _ _ (by omega)]
      exact v7
    · intro k hk
      rw [rpe _ _ _ (by omega)]
      exact w5 k hk
  · intro t' ht'
    by_cases z : t' = t
    · subst z
      exact Or.inl pk_us
    · rw [pk_un z]
      exact q5 t' ht'
  · intro t' ht' y1 y2
    by_cases z : t' = t
    · subst z
      exact absurd pk_us y1
    · rw [pk_un z] at y1
      exact q7 t' ht' y1 y2
theorem nb_Qc {Cw' : Nat → Nat} (h : nb_Q L R T word kept held G Wt Cw hc B rl rh rc rt ta tk tv tr tg) (hC : ∀ l, l < L → held l ≠ 0 → Cw' l = Cw l) : nb_Q L R T word kept held G Wt Cw' hc B rl rh rc rt ta tk tv tr tg := by
  obtain ⟨q1, q2, q3, q4, q5, q6, q7, q8⟩ := h
  refine ⟨q1, ?_, q3, q4, q5, q6, q7, q8⟩
  intro q m hq hm z
  obtain ⟨c', w1, w2, w3, w4, w5, w6, w7⟩ := q2 q m hq hm z
  refine ⟨c', w1, w2, w3, w4, w5, w6, fun x => ?_⟩
  rw [hC m hm (by rw [w6]; exact x)]
  exact w7 x
end
end
section
section
variable {L wl R T ov hc tn n : Nat} {ac an : Int32} {mem fl dy fd tree vl vy vd rl rh rc rt ta tk tv tr tg od : Nat → Int32}
variable {post : Int32 → Prop} {pS : SX → Prop} {pI : Int32 → SX → Prop}
theorem nb_w4 (h : wl ≤ 2) : 2 ^ wl ≤ 4 := Nat.pow_le_pow_right (n := 2) (by decide) h
theorem nb_bt0 {t : Nat} (ht : t < 16) (h : post 0) : wpX_badTag post (nI L, nI wl, nI (2 ^ wl), nI R, nI T, nI ov, nI hc, nI tn, nI n, ac, an, mem, fl, dy, fd, tree, vl, vy, vd, rl, rh, rc, rt, ta, tk, tv, tr, tg, od) (nI t) :=
  br_f (nI_pos (by omega)) (br_t (nI_lt (b := 16) ht (by decide)) h)
theorem nb_bt1 {x : Int32} (hx : x < 0 ∨ nI 16 ≤ x) (h : post 1) : wpX_badTag post (nI L, nI wl, nI (2 ^ wl), nI R, nI T, nI ov, nI hc, nI tn, nI n, ac, an, mem, fl, dy, fd, tree, vl, vy, vd, rl, rh, rc, rt, ta, tk, tv, tr, tg, od) x := by
  rcases hx with hx | hx
  · exact br_t hx h
  · exact br_c (fun _ => h) (fun _ => br_f (Int32.not_lt.mpr hx) h)
theorem nb_bl0 {l : Nat} (hL : L ≤ 32) (hl : l < L) (h : post 0) : wpX_badLine post (nI L, nI wl, nI (2 ^ wl), nI R, nI T, nI ov, nI hc, nI tn, nI n, ac, an, mem, fl, dy, fd, tree, vl, vy, vd, rl, rh, rc, rt, ta, tk, tv, tr, tg, od) (nI l) :=
  br_f (nI_pos (by omega)) (br_t (nI_lt hl (by omega)) h)
theorem nb_bl1 {x : Int32} (hx : x < 0 ∨ nI L ≤ x) (h : post 1) : wpX_badLine post (nI L, nI wl, nI (2 ^ wl), nI R, nI T, nI ov, nI hc, nI tn, nI n, ac, an, mem, fl, dy, fd, tree, vl, vy, vd, rl, rh, rc, rt, ta, tk, tv, tr, tg, od) x := by
  rcases hx with hx | hx
  · exact br_t hx h
  · exact br_c (fun _ => h) (fun _ => br_f (Int32.not_lt.mpr hx) h)
theorem nb_ba0 {a : Nat} (hL : L ≤ 32) (ha : a < L * 4) (h : post 0) : wpX_badAddr post (nI L, nI wl, nI (2 ^ wl), nI R, nI T, nI ov, nI hc, nI tn, nI n, ac, an, mem, fl, dy, fd, tree, vl, vy, vd, rl, rh, rc, rt, ta, tk, tv, tr, tg, od) (nI a) :=
  br_f (nI_pos (by omega)) (br_t (by rw [nb_m4]; exact nI_lt ha (by omega)) h)
theorem nb_ba1 {x : Int32} (hx : x < 0 ∨ nI (L * 4) ≤ x) (h : post 1) : wpX_badAddr post (nI L, nI wl, nI (2 ^ wl), nI R, nI T, nI ov, nI hc, nI tn, nI n, ac, an, mem, fl, dy, fd, tree, vl, vy, vd, rl, rh, rc, rt, ta, tk, tv, tr, tg, od) x := by
  rcases hx with hx | hx
  · exact br_t hx h
  · exact br_c (fun _ => h) (fun _ => br_f (by rw [nb_m4]; exact Int32.not_lt.mpr hx) h)
theorem nb_fr {x : Int32} (hR : R ≤ 8) (h1 : (∀ j, j < R → rl j ≠ x) → post (-1)) (h2 : ∀ j, j < R → rl j = x → post (nI j)) : wpX_findRegister post (nI L, nI wl, nI (2 ^ wl), nI R, nI T, nI ov, nI hc, nI tn, nI n, ac, an, mem, fl, dy, fd, tree, vl, vy, vd, rl, rh, rc, rt, ta, tk, tv, tr, tg, od) x := by
  have key : ∀ d i, i + d = R → (∀ j, j < i → rl j ≠ x) → wX_findRegister_2 post x (nI L) (nI wl) (nI (2 ^ wl)) (nI R) (nI T) (nI ov) (nI hc) (nI tn) (nI n) ac an mem fl dy fd tree vl vy vd rl rh rc rt ta tk tv tr tg od (d + 1) (nI i) := by
    intro d
    induction d with
    | zero =>
      intro i e hi
      exact pk_le R i (fun _ => h1 (fun j hj => hi j (by omega))) (fun z => absurd z (by omega))
    | succ d ih =>
      intro i e hi
      have cl : (nI i).toNatClampNeg = i := nI_clamp (by omega)
      refine pk_le R i (fun z => absurd z (by omega)) (fun _ => ⟨pk_in i 8 (by omega), ?_⟩)
      by_cases z : rl i = x
      · exact br_t (by rw [cl]; exact z) (h2 i (by omega) z)
      · exact br_f (by rw [cl]; exact z) (nm_r (nI_1 i) (ih (i + 1) (by omega) (lt_s hi z)))
  exact Exists.intro (R + 1) (key R 0 (by omega) lt_0)
theorem nb_fv {x : Int32} (h1 : (∀ j, j < 2 → vl j ≠ x) → post (-1)) (h2 : ∀ j, j < 2 → vl j = x → post (nI j)) : wpX_findVictim post (nI L, nI wl, nI (2 ^ wl), nI R, nI T, nI ov, nI hc, nI tn, nI n, ac, an, mem, fl, dy, fd, tree, vl, vy, vd, rl, rh, rc, rt, ta, tk, tv, tr, tg, od) x := by
  have key : ∀ d i, i + d = 2 → (∀ j, j < i → vl j ≠ x) → wX_findVictim_2 post x (nI L) (nI wl) (nI (2 ^ wl)) (nI R) (nI T) (nI ov) (nI hc) (nI tn) (nI n) ac an mem fl dy fd tree vl vy vd rl rh rc rt ta tk tv tr tg od (d + 1) (nI i) := by
    intro d
    induction d with
    | zero =>
      intro i e hi
      exact pk_le 2 i (fun _ => h1 (fun j hj => hi j (by omega))) (fun z => absurd z (by omega))
    | succ d ih =>
      intro i e hi
      have cl : (nI i).toNatClampNeg = i := nI_clamp (by omega)
      refine pk_le 2 i (fun z => absurd z (by omega)) (fun _ => ⟨pk_in i 2 (by omega), ?_⟩)
      by_cases z : vl i = x
      · exact br_t (by rw [cl]; exact z) (h2 i (by omega) z)
      · exact br_f (by rw [cl]; exact z) (nm_r (nI_1 i) (ih (i + 1) (by omega) (lt_s hi z)))
  exact Exists.intro 3 (key 2 0 (by omega) lt_0)
theorem nb_ff {l : Nat} (hl : l < 32) (hw : wl ≤ 2) (h1 : (∀ w, w < 2 ^ wl → fl (l % 2 * 4 + w) ≠ nI l) → post (-1)) (h2 : ∀ w, w < 2 ^ wl → fl (l % 2 * 4 + w) = nI l → post (nI (l % 2 * 4 + w))) : wpX_findFrame post (nI L, nI wl, nI (2 ^ wl), nI R, nI T, nI ov, nI hc, nI tn, nI n, ac, an, mem, fl, dy, fd, tree, vl, vy, vd, rl, rh, rc, rt, ta, tk, tv, tr, tg, od) (nI l) := by
  have w4 := nb_w4 hw
  have key : ∀ d i, i + d = 2 ^ wl → (∀ j, j < i → fl (l % 2 * 4 + j) ≠ nI l) → wX_findFrame_8 post (nI l) (nI (l % 2 * 4)) (nI L) (nI wl) (nI (2 ^ wl)) (nI R) (nI T) (nI ov) (nI hc) (nI tn) (nI n) ac an mem fl dy fd tree vl vy vd rl rh rc rt ta tk tv tr tg od (d + 1) (nI i) := by
    intro d
    induction d with
    | zero =>
      intro i e hi
      exact pk_le (2 ^ wl) i (fun _ => h1 (fun j hj => hi j (by omega))) (fun z => absurd z (by omega))
    | succ d ih =>
      intro i e hi
      have cl : (nI (l % 2 * 4) + nI i).toNatClampNeg = l % 2 * 4 + i := by rw [nI_add]; exact nI_clamp (by omega)
      refine pk_le (2 ^ wl) i (fun z => absurd z (by omega)) (fun _ => ⟨pk_in (l % 2 * 4 + i) 8 (by omega) (nI_add _ _), ?_⟩)
      by_cases z : fl (l % 2 * 4 + i) = nI l
      · exact br_t (by rw [cl]; exact z) (by rw [nI_add]; exact h2 i (by omega) z)
      · exact br_f (by rw [cl]; exact z) (nm_r (nI_1 i) (ih (i + 1) (by omega) (lt_s hi z)))
  exact And.intro nb_n2 (nm_r (by rw [nb_r2 (by omega), nb_m4]) (Exists.intro (2 ^ wl + 1) (key (2 ^ wl) 0 (by omega) lt_0)))
theorem nb_cf39 {s : Nat} (hs : s < 2) (hw : wl ≤ 2) (h : ∀ w, w < 2 ^ wl → post (nI (s * 4 + w))) : ∀ d j, j + d = wl → ∀ m, 2 ^ j ≤ m → m < 2 ^ (j + 1) → wX_chooseFrame_39 post (nI s) (nI L) (nI wl) (nI (2 ^ wl)) (nI R) (nI T) (nI ov) (nI hc) (nI tn) (nI n) ac an mem fl dy fd tree vl vy vd rl rh rc rt ta tk tv tr tg od (d + 1) (nI m) (nI j) := by
  intro d
  induction d with
  | zero =>
    intro j e m h1 h2
    obtain rfl : j = wl := by omega
    have e2 : nI s * 4 + nI m - nI (2 ^ j) = nI (s * 4 + (m - 2 ^ j)) := by
      rw [nb_i4, pk_sub (by omega)]
      exact congrArg nI (by omega)
    rw [Nat.pow_succ] at h2
    exact pk_le j j (fun _ => by rw [e2]; exact h _ (by omega)) (fun z => absurd z (by omega))
  | succ d ih =>
    intro j e m h1 h2
    refine pk_le wl j (fun z => absurd z (by omega)) (fun _ => ⟨pk_in s 2 hs, ?_⟩)
    intro y ey
    obtain ⟨b, hb, eb⟩ := pk_andE (tree (nI s).toNatClampNeg >>> (nI m &&& 31)) (m := 1) 1 (by decide)
    have e2 : y = nI (m * 2 + b) := by
      rw [ey, eb, ← nI_add, ← pk_mul]; rfl
    subst e2
    have p1 : 2 ^ (j + 1) = 2 ^ j * 2 := Nat.pow_succ ..
    have p2 : 2 ^ (j + 1 + 1) = 2 ^ (j + 1) * 2 := Nat.pow_succ ..
    exact nm_r (nI_1 j) (ih (j + 1) (by omega) (m * 2 + b) (by omega) (by omega))
theorem nb_cf {s : Nat} (hs : s < 2) (hw : wl ≤ 2) (h : ∀ w, w < 2 ^ wl → post (nI (s * 4 + w))) : wpX_chooseFrame post (nI L, nI wl, nI (2 ^ wl), nI R, nI T, nI ov, nI hc, nI tn, nI n, ac, an, mem, fl, dy, fd, tree, vl, vy, vd, rl, rh, rc, rt, ta, tk, tv, tr, tg, od) (nI s) := by
  have w4 := nb_w4 hw
  have key : ∀ d i, i + d = 2 ^ wl → wX_chooseFrame_2 post (nI s) (nI L) (nI wl) (nI (2 ^ wl)) (nI R) (nI T) (nI ov) (nI hc) (nI tn) (nI n) ac an mem fl dy fd tree vl vy vd rl rh rc rt ta tk tv tr tg od (d + 1) (nI i) := by
    intro d
    induction d with
    | zero =>
      intro i e
      exact pk_le (2 ^ wl) i (fun _ => Exists.intro (wl + 1) (nb_cf39 hs hw h wl 0 (by omega) 1 (by decide) (by decide))) (fun z => absurd z (by omega))
    | succ d ih =>
      intro i e
      refine pk_le (2 ^ wl) i (fun z => absurd z (by omega)) (fun _ => ⟨pk_in (s * 4 + i) 8 (by omega) (nb_i4 s i), br_c (fun _ => nm_r (nI_1 i) (ih (i + 1) (by omega))) (fun _ => ?_)⟩)
      rw [nb_i4]
      exact h i (by omega)
  exact Exists.intro (2 ^ wl + 1) (key (2 ^ wl) 0 (by omega))
theorem nb_dr56 {s : Nat} (hs : s < 2) (h : pS (nI L, nI wl, nI (2 ^ wl), nI R, nI T, nI ov, nI hc, nI tn, nI n, ac, an, mem, fl, dy, fd, tree, upd vl s (-1), upd vy s 0, vd, rl, rh, rc, rt, ta, tk, tv, tr, tg, od)) : wX_drain_56 pS (nI s) (nI L) (nI wl) (nI (2 ^ wl)) (nI R) (nI T) (nI ov) (nI hc) (nI tn) (nI n) ac an mem fl dy fd tree vl vy vd rl rh rc rt ta tk tv tr tg od := by
  have cs : (nI s).toNatClampNeg = s := nI_clamp (by omega)
  exact And.intro (pk_in s 2 hs) (nm_r (by rw [cs]) ⟨pk_in s 2 hs, nm_r (by rw [cs]; rfl) h⟩)
theorem nb_dr20 {s l : Nat} (hs : s < 2) (hl : l < 32) (e : vl s = nI l) (h : pS (nI L, nI wl, nI (2 ^ wl), nI R, nI T, nI ov, nI hc, nI tn, nI n, ac, an, nb_cp mem l vd s 4, fl, dy, fd, tree, upd vl s (-1), upd vy s 0, vd, rl, rh, rc, rt, ta, tk, tv, tr, tg, od)) : ∀ d i, i + d = 4 → wX_drain_20 pS (nI s) (nI L) (nI wl) (nI (2 ^ wl)) (nI R) (nI T) (nI ov) (nI hc) (nI tn) (nI n) ac an (d + 1) (nI i) (nb_cp mem l vd s i) fl dy fd tree vl vy vd rl rh rc rt ta tk tv tr tg od := by
  intro d
  induction d with
  | zero =>
    intro i ei
    obtain rfl : i = 4 := by omega
    exact pk_le 4 4 (fun _ => nb_dr56 hs h) (fun z => absurd z (by omega))
  | succ d ih =>
    intro i ei
    have cs : (nI s).toNatClampNeg = s := nI_clamp (by omega)
    have c1 : (nI s * 4 + nI i).toNatClampNeg = s * 4 + i := by rw [nb_i4]; exact nI_clamp (by omega)
    have e2 : vl (nI s).toNatClampNeg * 4 + nI i = nI (l * 4 + i) := by rw [cs, e, nb_i4]
    have c2 : (vl (nI s).toNatClampNeg * 4 + nI i).toNatClampNeg = l * 4 + i := by rw [e2]; exact nI_clamp (by omega)
    exact pk_le 4 i (fun z => absurd z (by omega)) (fun _ => ⟨pk_in s 2 hs, pk_in (s * 4 + i) 8 (by omega) (nb_i4 s i), pk_in (l * 4 + i) 128 (by omega) e2, nm_r (by rw [c1, c2, nb_cps]) (nm_r (nI_1 i) (ih (i + 1) (by omega)))⟩)
theorem nb_dr {s : Nat} (hs : s < 2) (hv : vl s = -1 ∨ ∃ l, l < L ∧ vl s = nI l) (hL : L ≤ 32)
    (h : ∀ m', (m' = mem ∧ (vl s = -1 ∨ vy s = 0)) ∨ (∃ l, l < L ∧ vl s = nI l ∧ m' = nb_cp mem l vd s 4) → pS (nI L, nI wl, nI (2 ^ wl), nI R, nI T, nI ov, nI hc, nI tn, nI n, ac, an, m', fl, dy, fd, tree, upd vl s (-1), upd vy s 0, vd, rl, rh, rc, rt, ta, tk, tv, tr, tg, od)) : wpX_drain pS (nI L, nI wl, nI (2 ^ wl), nI R, nI T, nI ov, nI hc, nI tn, nI n, ac, an, mem, fl, dy, fd, tree, vl, vy, vd, rl, rh, rc, rt, ta, tk, tv, tr, tg, od) (nI s) := by
  have cs : (nI s).toNatClampNeg = s := nI_clamp (by omega)
  rcases hv with e | ⟨l, hl, e⟩
  · exact And.intro (pk_in s 2 hs) (br_t (by rw [cs, e]; exact nb_neg) (nb_dr56 hs (h mem (Or.inl ⟨rfl, Or.inl e⟩))))
  · refine And.intro (pk_in s 2 hs) (br_f (by rw [cs, e]; exact nI_pos (by omega)) ⟨pk_in s 2 hs, ?_⟩)
    by_cases z : vy s = 0
    · exact br_t (by rw [cs]; exact z) (nb_dr56 hs (h mem (Or.inl ⟨rfl, Or.inr z⟩)))
    · refine br_f (by rw [cs]; exact z) (Exists.intro 5 ?_)
      have k := nb_dr20 hs (by omega) e (h _ (Or.inr ⟨l, hl, e, rfl⟩)) 4 0 rfl
      rw [nb_cp0] at k
      exact k
theorem nb_ex57 {f s : Nat} (hf : f < 8) (hs : s < 2) (h : pS (nI L, nI wl, nI (2 ^ wl), nI R, nI T, nI (1 - s), nI hc, nI tn, nI n, ac, an, mem, fl, dy, nb_cp fd f vd s 4, tree, vl, vy, nb_cp vd s fd f 4, rl, rh, rc, rt, ta, tk, tv, tr, tg, od)) : ∀ d i, i + d = 4 → wX_exchange_57 pS (nI f) (nI s) (nI L) (nI wl) (nI (2 ^ wl)) (nI R) (nI T) (nI ov) (nI hc) (nI tn) (nI n) ac an (d + 1) (nI i) mem fl dy (nb_cp fd f vd s i) tree vl vy (nb_cp vd s fd f i) rl rh rc rt ta tk tv tr tg od := by
  intro d
  induction d with
  | zero =>
    intro i ei
    obtain rfl : i = 4 := by omega
    exact pk_le 4 4 (fun _ => nm_r (pk_sub (a := 1) (by omega)) h) (fun z => absurd z (by omega))
  | succ d ih =>
    intro i ei
    have c1 : (nI f * 4 + nI i).toNatClampNeg = f * 4 + i := by rw [nb_i4]; exact nI_clamp (by omega)
    have c2 : (nI s * 4 + nI i).toNatClampNeg = s * 4 + i := by rw [nb_i4]; exact nI_clamp (by omega)
    have i1 : vp_in (nI f * 4 + nI i) 32 := pk_in (f * 4 + i) 32 (by omega) (nb_i4 f i)
    have i2 : vp_in (nI s * 4 + nI i) 8 := pk_in (s * 4 + i) 8 (by omega) (nb_i4 s i)
    exact pk_le 4 i (fun z => absurd z (by omega)) (fun _ => ⟨i1, nm_r (e' := fd (f * 4 + i)) (by rw [c1, nb_cpx (Nat.le_refl _)]) ⟨i2, i1, nm_r (by rw [c1, c2, nb_cpx (Nat.le_refl _), nb_cps]) ⟨i2, nm_r (by rw [c2, nb_cps]) (nm_r (nI_1 i) (ih (i + 1) (by omega)))⟩⟩⟩)
theorem nb_ex57s {f s : Nat} (hf : f < 8) (hs : s < 2) (h : pS (nI L, nI wl, nI (2 ^ wl), nI R, nI T, nI (1 - s), nI hc, nI tn, nI n, ac, an, mem, fl, dy, nb_cp fd f vd s 4, tree, vl, vy, nb_cp vd s fd f 4, rl, rh, rc, rt, ta, tk, tv, tr, tg, od)) : wX_exchange_57 pS (nI f) (nI s) (nI L) (nI wl) (nI (2 ^ wl)) (nI R) (nI T) (nI ov) (nI hc) (nI tn) (nI n) ac an 5 0 mem fl dy fd tree vl vy vd rl rh rc rt ta tk tv tr tg od := by
  have k := nb_ex57 (ov := ov) hf hs h 4 0 rfl
  rw [nb_cp0, nb_cp0] at k
  exact k
theorem nb_ex {f s : Nat} (hf : f < 8) (hs : s < 2) (hd : dy f = 0 ∨ dy f = 1) (hv : vy s = 0 ∨ vy s = 1)
    (h : pS (nI L, nI wl, nI (2 ^ wl), nI R, nI T, nI (1 - s), nI hc, nI tn, nI n, ac, an, mem, upd fl f (vl s), upd dy f (vy s), nb_cp fd f vd s 4, tree, upd vl s (fl f), upd vy s (dy f), nb_cp vd s fd f 4, rl, rh, rc, rt, ta, tk, tv, tr, tg, od)) : wpX_exchange pS (nI L, nI wl, nI (2 ^ wl), nI R, nI T, nI ov, nI hc, nI tn, nI n, ac, an, mem, fl, dy, fd, tree, vl, vy, vd, rl, rh, rc, rt, ta, tk, tv, tr, tg, od) (nI f) (nI s) := by
  have cf : (nI f).toNatClampNeg = f := nI_clamp (by omega)
  have cs : (nI s).toNatClampNeg = s := nI_clamp (by omega)
  have i1 : vp_in (nI f) 8 := pk_in f 8 hf
  have i2 : vp_in (nI s) 2 := pk_in s 2 hs
  exact And.intro i1 (nm_r (e' := fl f) (by rw [cf]) ⟨i2, i1, nm_r (by rw [cf, cs]) ⟨i2, nm_r (by rw [cs]) ⟨i1, nm_r (e' := dy f) (by rw [cf]) ⟨i2, i1, nm_r (by rw [cf, cs, nb_nar hv]) ⟨i2, nm_r (by rw [cs, nb_nar hd]) (Exists.intro 5 (nb_ex57s hf hs h))⟩⟩⟩⟩⟩)
theorem nb_app {k o v : Int32} (h : post (nb_ap k o v)) : wpX_apply post (nI L, nI wl, nI (2 ^ wl), nI R, nI T, nI ov, nI hc, nI tn, nI n, ac, an, mem, fl, dy, fd, tree, vl, vy, vd, rl, rh, rc, rt, ta, tk, tv, tr, tg, od) k o v := by
  by_cases h1 : k = 1
  · subst h1
    rw [nb_ap1] at h
    exact br_f (by decide) (br_f (by decide) (br_t rfl h))
  · by_cases h2 : k = 2
    · subst h2
      rw [nb_ap2] at h
      exact br_f (by decide) (br_f (by decide) (br_f h1 (br_t rfl h)))
    · by_cases h3 : k = 3
      · subst h3
        rw [nb_ap3] at h
        exact br_f (by decide) (br_f (by decide) (br_f h1 (br_f h2 (br_t rfl h))))
      · by_cases h4 : k = 4
        · subst h4
          rw [nb_ap4] at h
          exact br_f (by decide) (br_f (by decide) (br_f h1 (br_f h2 (br_f h3 (br_t rfl h)))))
        · by_cases h5 : k = 5
          · subst h5
            rw [nb_ap5] at h
            refine br_f (by decide) (br_f (by decide) (br_f h1 (br_f h2 (br_f h3 (br_f h4 (br_t rfl ?_))))))
            by_cases z : o = 0
            · rw [if_pos z] at h
              exact br_t z h
            · rw [if_neg z] at h
              exact br_f z h
          · rw [nb_ap0 o v h1 h2 h3 h4 h5] at h
            exact br_c (fun _ => h) (fun _ => br_c (fun _ => h) (fun _ => br_f h1 (br_f h2 (br_f h3 (br_f h4 (br_f h5 True.intro))))))
theorem nb_to14 {s : Nat} {x1 : Int32} (hs : s < 2) (h : ∀ tree', pS (nI L, nI wl, nI (2 ^ wl), nI R, nI T, nI ov, nI hc, nI tn, nI n, ac, an, mem, fl, dy, fd, tree', vl, vy, vd, rl, rh, rc, rt, ta, tk, tv, tr, tg, od)) : ∀ m, m ≤ 2 → ∀ (x3 x4 : Int32) (tree' : Nat → Int32), x4 = nI m + (-1) → wX_touch_14 pS x1 (nI s) (nI L) (nI wl) (nI (2 ^ wl)) (nI R) (nI T) (nI ov) (nI hc) (nI tn) (nI n) ac an (m + 1) x3 x4 mem fl dy fd tree' vl vy vd rl rh rc rt ta tk tv tr tg od := by
  intro m
  induction m with
  | zero =>
    intro _ x3 x4 tree' e
    subst e
    exact br_t (by decide) (h tree')
  | succ m ih =>
    intro hm x3 x4 tree' e
    rw [pk_m1] at e
    subst e
    exact br_f (nI_pos (by omega)) (fun x5 e5 => ⟨pk_in s 2 hs, pk_in s 2 hs, fun t8 e8 x9 e9 x10 e10 => ih (by omega) x9 x10 t8 e10⟩)
theorem nb_to {f : Nat} (hf : f < 8) (hw : wl ≤ 2) (h : ∀ tree', pS (nI L, nI wl, nI (2 ^ wl), nI R, nI T, nI ov, nI hc, nI tn, nI n, ac, an, mem, fl, dy, fd, tree', vl, vy, vd, rl, rh, rc, rt, ta, tk, tv, tr, tg, od)) : wpX_touch pS (nI L, nI wl, nI (2 ^ wl), nI R, nI T, nI ov, nI hc, nI tn, nI n, ac, an, mem, fl, dy, fd, tree, vl, vy, vd, rl, rh, rc, rt, ta, tk, tv, tr, tg, od) (nI f) :=
  And.intro nb_n0 (nm_r (nb_d4 (by omega)) (nm_r (Int32.sub_eq_add_neg _ _) (Exists.intro (wl + 1) (nb_to14 (by omega) h wl hw 1 _ tree rfl))))
theorem nb_sv63 {t f : Nat} {x : Int32} (ht : t < 16) (hf : f < 8) (hw : wl ≤ 2) (h : ∀ tree', pS (nI L, nI wl, nI (2 ^ wl), nI R, nI T, nI ov, nI hc, nI tn, nI n, ac, an, mem, fl, dy, fd, tree', vl, vy, vd, rl, rh, rc, rt, ta, tk, tv, upd tr t x, upd tg t (-1), od)) : wX_serve_63 pS (nI t) (nI f) x (nI L) (nI wl) (nI (2 ^ wl)) (nI R) (nI T) (nI ov) (nI hc) (nI tn) (nI n) ac an mem fl dy fd tree vl vy vd rl rh rc rt ta tk tv tr tg od := by
  have ct : (nI t).toNatClampNeg = t := nI_clamp (by omega)
  exact And.intro (pk_in t 16 ht) (nm_r (by rw [ct]) ⟨pk_in t 16 ht, nm_r (by rw [ct]) (nb_to hf hw h)⟩)
theorem nb_sv {t f a : Nat} (ht : t < 16) (hf : f < 8) (ha : a < 128) (hw : wl ≤ 2) (e : ta t = nI a)
    (h : ∀ tree' dy', (dy' = dy ∧ nb_ap (tk t) (fd (f * 4 + a % 4)) (tv t) = fd (f * 4 + a % 4)) ∨ dy' = upd dy f 1 → pS (nI L, nI wl, nI (2 ^ wl), nI R, nI T, nI ov, nI hc, nI tn, nI n, ac, an, mem, fl, dy', upd fd (f * 4 + a % 4) (nb_ap (tk t) (fd (f * 4 + a % 4)) (tv t)), tree', vl, vy, vd, rl, rh, rc, rt, ta, tk, tv, upd tr t (fd (f * 4 + a % 4)), upd tg t (-1), od)) : wpX_serve pS (nI L, nI wl, nI (2 ^ wl), nI R, nI T, nI ov, nI hc, nI tn, nI n, ac, an, mem, fl, dy, fd, tree, vl, vy, vd, rl, rh, rc, rt, ta, tk, tv, tr, tg, od) (nI t) (nI f) := by
  have ct : (nI t).toNatClampNeg = t := nI_clamp (by omega)
  have cf : (nI f).toNatClampNeg = f := nI_clamp (by omega)
  have i1 : vp_in (nI t) 16 := pk_in t 16 ht
  have ca : (nI (f * 4 + a % 4)).toNatClampNeg = f * 4 + a % 4 := nI_clamp (by omega)
  have i3 : vp_in (nI (f * 4 + a % 4)) 32 := pk_in (f * 4 + a % 4) 32 (by omega)
  refine And.intro i1 ⟨nb_n0, nm_r (e' := nI (f * 4 + a % 4)) (by rw [ct, e, nb_r4 (by omega), nb_i4]) ⟨i3, nm_r (e' := fd (f * 4 + a % 4)) (by rw [ca]) ⟨i1, i1, nb_app ?_⟩⟩⟩
  rw [ct]
  by_cases z : nb_ap (tk t) (fd (f * 4 + a % 4)) (tv t) = fd (f * 4 + a % 4)
  · refine br_t z (nb_sv63 ht hf hw (fun tree' => ?_))
    have k := h tree' dy (Or.inl ⟨rfl, z⟩)
    rw [z, nb_us] at k
    exact k
  · exact br_f z ⟨i3, nm_r (by rw [ca]) ⟨pk_in f 8 hf, nm_r (by rw [cf]; rfl) (nb_sv63 ht hf hw (fun tree' => h tree' _ (Or.inr rfl)))⟩⟩
theorem nb_rf18 {r f l : Nat} (hf : f < 8) (hl : l < 32) (h : ∃ n69, wX_refill_69 pS (nI r) (nI f) n69 0 (nI L) (nI wl) (nI (2 ^ wl)) (nI R) (nI T) (nI ov) (nI hc) (nI tn) (nI n) ac an mem (upd fl f (nI l)) (upd dy f 0) (nb_cp fd f mem l 4) tree vl vy vd rl rh rc rt ta tk tv tr tg od) : ∀ d i, i + d = 4 → wX_refill_18 pS (nI r) (nI l) (nI f) (nI L) (nI wl) (nI (2 ^ wl)) (nI R) (nI T) (nI ov) (nI hc) (nI tn) (nI n) ac an (d + 1) (nI i) mem fl dy (nb_cp fd f mem l i) tree vl vy vd rl rh rc rt ta tk tv tr tg od := by
  intro d
  induction d with
  | zero =>
    intro i ei
    obtain rfl : i = 4 := by omega
    have cf : (nI f).toNatClampNeg = f := nI_clamp (by omega)
    exact pk_le 4 4 (fun _ => ⟨pk_in f 8 hf, nm_r (by rw [cf]) ⟨pk_in f 8 hf, nm_r (by rw [cf]; rfl) h⟩⟩) (fun z => absurd z (by omega))
  | succ d ih =>
    intro i ei
    have c1 : (nI f * 4 + nI i).toNatClampNeg = f * 4 + i := by rw [nb_i4]; exact nI_clamp (by omega)
    have c2 : (nI l * 4 + nI i).toNatClampNeg = l * 4 + i := by rw [nb_i4]; exact nI_clamp (by omega)
    exact pk_le 4 i (fun z => absurd z (by omega)) (fun _ => ⟨pk_in (l * 4 + i) 128 (by omega) (nb_i4 l i), pk_in (f * 4 + i) 32 (by omega) (nb_i4 f i), nm_r (by rw [c1, c2, nb_cps]) (nm_r (nI_1 i) (ih (i + 1) (by omega)))⟩)
theorem nb_rf18s {r f l : Nat} (hf : f < 8) (hl : l < 32) (h : ∃ n69, wX_refill_69 pS (nI r) (nI f) n69 0 (nI L) (nI wl) (nI (2 ^ wl)) (nI R) (nI T) (nI ov) (nI hc) (nI tn) (nI n) ac an mem (upd fl f (nI l)) (upd dy f 0) (nb_cp fd f mem l 4) tree vl vy vd rl rh rc rt ta tk tv tr tg od) : wX_refill_18 pS (nI r) (nI l) (nI f) (nI L) (nI wl) (nI (2 ^ wl)) (nI R) (nI T) (nI ov) (nI hc) (nI tn) (nI n) ac an 5 0 mem fl dy fd tree vl vy vd rl rh rc rt ta tk tv tr tg od := by
  have k := nb_rf18 hf hl h 4 0 rfl
  rw [nb_cp0] at k
  exact k
theorem nb_ow {q : Nat} (hq : q < 8) (hv : rl q = -1 ∨ ∃ l, l < L ∧ rl q = nI l) (hL : L ≤ 32) (h0 : (rl q = -1 ∨ rh q ≠ 0) → post 0) (h1 : ∀ l, l < L → rl q = nI l → rh q = 0 → post 1) : wpX_owed post (nI L, nI wl, nI (2 ^ wl), nI R, nI T, nI ov, nI hc, nI tn, nI n, ac, an, mem, fl, dy, fd, tree, vl, vy, vd, rl, rh, rc, rt, ta, tk, tv, tr, tg, od) (nI q) := by
  have cq : (nI q).toNatClampNeg = q := nI_clamp (by omega)
  rcases hv with e | ⟨l, hl, e⟩
  · exact And.intro (pk_in q 8 hq) (br_t (by rw [cq, e]; exact nb_neg) (h0 (Or.inl e)))
  · refine And.intro (pk_in q 8 hq) (br_f (by rw [cq, e]; exact nI_pos (by omega)) ⟨pk_in q 8 hq, ?_⟩)
    by_cases z : rh q = 0
    · exact br_t (by rw [cq]; exact z) (h1 l hl e z)
    · exact br_f (by rw [cq]; exact z) (h0 (Or.inr z))
theorem nb_nx34 {J2 : Int32 → Int32 → Prop} {q i : Nat} (hq : q < 8) (hv : rl q = -1 ∨ ∃ l, l < L ∧ rl q = nI l) (hL : L ≤ 32) (h0 : (rl q = -1 ∨ rh q ≠ 0) → J2 (nI (i + 1)) (nI q)) (h1 : ∀ l, l < L → rl q = nI l → rh q = 0 → pI (nI q) (nI L, nI wl, nI (2 ^ wl), nI R, nI T, nI ov, nI hc, nI q, nI n, ac, an, mem, fl, dy, fd, tree, vl, vy, vd, rl, rh, rc, rt, ta, tk, tv, tr, tg, od)) : wX_nextOwed_34 pI J2 (nI i) (nI q) (nI L) (nI wl) (nI (2 ^ wl)) (nI R) (nI T) (nI ov) (nI hc) (nI tn) (nI n) ac an mem fl dy fd tree vl vy vd rl rh rc rt ta tk tv tr tg od :=
  nb_ow (tn := q) hq hv hL (fun z => br_t rfl (nm_r (nI_1 i) (h0 z))) (fun l hl e z => br_f (by decide) (h1 l hl e z))
theorem nb_nx {q0 : Nat} (hR : R ≤ 8) (hL : L ≤ 32) (htn : tn < R) (hv : ∀ q, q < R → rl q = -1 ∨ ∃ l, l < L ∧ rl q = nI l) (hq : q0 < R) (ho : rl q0 ≠ -1 ∧ rh q0 = 0)
    (h : ∀ q l, q < R → l < L → rl q = nI l → rh q = 0 → pI (nI q) (nI L, nI wl, nI (2 ^ wl), nI R, nI T, nI ov, nI hc, nI q, nI n, ac, an, mem, fl, dy, fd, tree, vl, vy, vd, rl, rh, rc, rt, ta, tk, tv, tr, tg, od)) : wpX_nextOwed pI (nI L, nI wl, nI (2 ^ wl), nI R, nI T, nI ov, nI hc, nI tn, nI n, ac, an, mem, fl, dy, fd, tree, vl, vy, vd, rl, rh, rc, rt, ta, tk, tv, tr, tg, od) := by
  have key : ∀ d i, i + d = R → ∀ t, ((tn + i < R ∧ t = tn + i) ∨ (R ≤ tn + i ∧ t + R = tn + i)) → (∀ q, q < R → ((tn < q ∧ q ≤ tn + i) ∨ q + R ≤ tn + i) → (rl q = -1 ∨ rh q ≠ 0)) → wX_nextOwed_2 pI (nI L) (nI wl) (nI (2 ^ wl)) (nI R) (nI T) (nI ov) (nI hc) (nI n) ac an mem fl dy fd tree vl vy vd rl rh rc rt ta tk tv tr tg od (d + 1) (nI i) (nI t) := by
    intro d
    induction d with
    | zero =>
      intro i e t ht hall
      have := hall q0 hq (by omega)
      rcases this with z | z
      · exact absurd z ho.1
      · exact absurd ho.2 z
    | succ d ih =>
      intro i e t ht hall
      refine pk_le R i (fun z => absurd z (by omega)) (fun _ => ?_)
      refine pk_le R (t + 1) (fun z => ?_) (fun z => ?_) rfl (nI_1 t)
      · refine nb_nx34 (tn := t) (q := 0) (by omega) (hv 0 (by omega)) hL (fun y => ih (i + 1) (by omega) 0 (by omega) ?_) (fun l hl e1 e2 => h 0 l (by omega) hl e1 e2)
        intro q hq hx
        by_cases w : q = 0
        · subst w; exact y
        · exact hall q hq (by omega)
      · rw [nI_1]
        refine nb_nx34 (tn := t) (q := t + 1) (by omega) (hv (t + 1) (by omega)) hL (fun y => ih (i + 1) (by omega) (t + 1) (by omega) ?_) (fun l hl e1 e2 => h (t + 1) l (by omega) hl e1 e2)
        intro q hq hx
        by_cases w : q = t + 1
        · subst w; exact y
        · exact hall q hq (by omega)
  exact Exists.intro (R + 1) (key R 0 (by omega) tn (by omega) (fun q hq hx => absurd hx (by omega)))
theorem nb_cl20 {f l : Nat} (hf : f < 8) (hl : l < 32) (e : fl f = nI l) (h : pS (nI L, nI wl, nI (2 ^ wl), nI R, nI T, nI ov, nI hc, nI tn, nI n, ac, an, nb_cp mem l fd f 4, fl, upd dy f 0, fd, tree, vl, vy, vd, rl, rh, rc, rt, ta, tk, tv, tr, tg, od)) : ∀ d i, i + d = 4 → wX_clean_20 pS (nI f) (nI L) (nI wl) (nI (2 ^ wl)) (nI R) (nI T) (nI ov) (nI hc) (nI tn) (nI n) ac an (d + 1) (nI i) (nb_cp mem l fd f i) fl dy fd tree vl vy vd rl rh rc rt ta tk tv tr tg od := by
  intro d
  have cf : (nI f).toNatClampNeg = f := nI_clamp (by omega)
  induction d with
  | zero =>
    intro i ei
    obtain rfl : i = 4 := by omega
    exact pk_le 4 4 (fun _ => ⟨pk_in f 8 hf, nm_r (by rw [cf]; rfl) h⟩) (fun z => absurd z (by omega))
  | succ d ih =>
    intro i ei
    have c1 : (nI f * 4 + nI i).toNatClampNeg = f * 4 + i := by rw [nb_i4]; exact nI_clamp (by omega)
    have e2 : fl (nI f).toNatClampNeg * 4 + nI i = nI (l * 4 + i) := by rw [cf, e, nb_i4]
    have c2 : (fl (nI f).toNatClampNeg * 4 + nI i).toNatClampNeg = l * 4 + i := by rw [e2]; exact nI_clamp (by omega)
    exact pk_le 4 i (fun z => absurd z (by omega)) (fun _ => ⟨pk_in f 8 hf, pk_in (f * 4 + i) 32 (by omega) (nb_i4 f i), pk_in (l * 4 + i) 128 (by omega) e2, nm_r (by rw [c1, c2, nb_cps]) (nm_r (nI_1 i) (ih (i + 1) (by omega)))⟩)
theorem nb_cl {f : Nat} (hf : f < 8) (hv : fl f = -1 ∨ ∃ l, l < L ∧ fl f = nI l) (hL : L ≤ 32)
    (h : ∀ m', (m' = mem ∧ (fl f = -1 ∨ dy f = 0)) ∨ (∃ l, l < L ∧ fl f = nI l ∧ m' = nb_cp mem l fd f 4) → pS (nI L, nI wl, nI (2 ^ wl), nI R, nI T, nI ov, nI hc, nI tn, nI n, ac, an, m', fl, upd dy f 0, fd, tree, vl, vy, vd, rl, rh, rc, rt, ta, tk, tv, tr, tg, od)) : wpX_clean pS (nI L, nI wl, nI (2 ^ wl), nI R, nI T, nI ov, nI hc, nI tn, nI n, ac, an, mem, fl, dy, fd, tree, vl, vy, vd, rl, rh, rc, rt, ta, tk, tv, tr, tg, od) (nI f) := by
  have cf : (nI f).toNatClampNeg = f := nI_clamp (by omega)
  rcases hv with e | ⟨l, hl, e⟩
  · exact And.intro (pk_in f 8 hf) (br_t (by rw [cf, e]; exact nb_neg) ⟨pk_in f 8 hf, nm_r (by rw [cf]; rfl) (h mem (Or.inl ⟨rfl, Or.inl e⟩))⟩)
  · refine And.intro (pk_in f 8 hf) (br_f (by rw [cf, e]; exact nI_pos (by omega)) ⟨pk_in f 8 hf, ?_⟩)
    by_cases z : dy f = 0
    · exact br_t (by rw [cf]; exact z) ⟨pk_in f 8 hf, nm_r (by rw [cf]; rfl) (h mem (Or.inl ⟨rfl, Or.inr z⟩))⟩
    · refine br_f (by rw [cf]; exact z) (Exists.intro 5 ?_)
      have k := nb_cl20 hf (by omega) e (h _ (Or.inr ⟨l, hl, e, rfl⟩)) 4 0 rfl
      rw [nb_cp0] at k
      exact k
/-- replay up to target e, where it stops or ends -/
theorem nb_re {r a c e : Nat} {x : Int32} (hr : r < 8) (ha : a < 128) (hc8 : c ≤ 8) (ec : rc r = nI c) (ht : ∀ i, i < c → ∃ t, t < 16 ∧ rt (r * 8 + i) = nI t) (he : e ≤ c) (h1 : ∀ i, i < e → rt (r * 8 + i) ≠ x) (h2 : e = c ∨ rt (r * 8 + e) = x) (h : post (nb_rp ta tk tv rt r (nI a) (mem a) e)) : wpX_replay post (nI L, nI wl, nI (2 ^ wl), nI R, nI T, nI ov, nI hc, nI tn, nI n, ac, an, mem, fl, dy, fd, tree, vl, vy, vd, rl, rh, rc, rt, ta, tk, tv, tr, tg, od) (nI r) (nI a) x := by
  have cr : (nI r).toNatClampNeg = r := nI_clamp (by omega)
  have key : ∀ d i, i + d = e → wX_replay_11 post (nI r) (nI a) x (nI L) (nI wl) (nI (2 ^ wl)) (nI R) (nI T) (nI ov) (nI hc) (nI tn) (nI n) ac an mem fl dy fd tree vl vy vd rl rh rc rt ta tk tv tr tg od (d + 1) (nb_rp ta tk tv rt r (nI a) (mem a) i) (nI i) := by
    intro d
    induction d with
    | zero =>
      intro i ei
      obtain rfl : i = e := by omega
      by_cases y : i = c
      · exact And.intro (pk_in r 8 hr) (br_t (by rw [cr, ec, y]; exact Int32.le_refl _) h)
      · have c1 : (nI r * 8 + nI i).toNatClampNeg = r * 8 + i := by rw [nb_i8]; exact nI_clamp (by omega)
        have z : rt (r * 8 + i) = x := h2.resolve_left y
        exact And.intro (pk_in r 8 hr) (br_f (by rw [cr, ec]; exact nI_ge (by omega) (by omega)) ⟨pk_in (r * 8 + i) 64 (by omega) (nb_i8 r i), nm_r (e' := rt (r * 8 + i)) (by rw [c1]) (br_t z h)⟩)
    | succ d ih =>
      intro i ei
      obtain ⟨t, ht16, et⟩ := ht i (by omega)
      have ct : (nI t).toNatClampNeg = t := nI_clamp (by omega)
      have c1 : (nI r * 8 + nI i).toNatClampNeg = r * 8 + i := by rw [nb_i8]; exact nI_clamp (by omega)
      refine And.intro (pk_in r 8 hr) (br_f (by rw [cr, ec]; exact nI_ge (by omega) (by omega)) ⟨pk_in (r * 8 + i) 64 (by omega) (nb_i8 r i), nm_r (e' := nI t) (by rw [c1, et]) (br_f (by rw [← et]; exact h1 i (by omega)) ⟨pk_in t 16 ht16, ?_⟩)⟩)
      have k := ih (i + 1) (by omega)
      rw [nb_rp, et, ct] at k
      by_cases z : ta t = nI a
      · rw [if_pos z] at k
        exact br_t (by rw [ct]; exact z) ⟨pk_in t 16 ht16, pk_in t 16 ht16, nb_app (nm_r (nI_1 i) (by rw [ct]; exact k))⟩
      · rw [if_neg z] at k
        exact br_f (by rw [ct]; exact z) (nm_r (nI_1 i) k)
  exact And.intro (pk_in a 128 ha) (nm_r (e' := mem a) (by rw [nI_clamp (by omega)]) (Exists.intro (e + 1) (key e 0 (by omega))))
theorem nb_pl {t p : Nat} (hn : n ≤ 16) (hp : p < n) (e : od p = nI t) (hu : ∀ i, i < n → od i = nI t → i = p) (h : post (nI p)) : wpX_placeOf post (nI L, nI wl, nI (2 ^ wl), nI R, nI T, nI ov, nI hc, nI tn, nI n, ac, an, mem, fl, dy, fd, tree, vl, vy, vd, rl, rh, rc, rt, ta, tk, tv, tr, tg, od) (nI t) := by
  have key : ∀ d i, i + d = n → ∀ x, x = (if p < i then nI p else 0) → wX_placeOf_4 post (nI t) (nI L) (nI wl) (nI (2 ^ wl)) (nI R) (nI T) (nI ov) (nI hc) (nI tn) (nI n) ac an mem fl dy fd tree vl vy vd rl rh rc rt ta tk tv tr tg od (d + 1) x (nI i) := by
    intro d
    induction d with
    | zero =>
      intro i ei x hx
      rw [if_pos (by omega)] at hx
      subst hx
      exact pk_le n i (fun _ => h) (fun z => absurd z (by omega))
    | succ d ih =>
      intro i ei x hx
      have ci : (nI i).toNatClampNeg = i := nI_clamp (by omega)
      refine pk_le n i (fun z => absurd z (by omega)) (fun _ => ⟨pk_in i 16 (by omega), ?_⟩)
      by_cases z : od i = nI t
      · have ip := hu i (by omega) z
        exact br_t (by rw [ci]; exact z) (nm_r (nI_1 i) (ih (i + 1) (by omega) (nI i) (by rw [if_pos (by omega), ip])))
      · have ip : i ≠ p := fun y => z (by rw [y]; exact e)
        refine br_f (by rw [ci]; exact z) (nm_r (nI_1 i) (ih (i + 1) (by omega) x ?_))
        rw [hx]
        by_cases y : p < i
        · rw [if_pos y, if_pos (by omega)]
        · rw [if_neg y, if_neg (by omega)]
  exact Exists.intro (n + 1) (key n 0 (by omega) 0 (by rw [if_neg (by omega)]))
theorem nb_fg {t p m : Nat} (ht : t < 16) (hn : n ≤ 16) (em : n = m + 1) (hp : p < n) (e : od p = nI t) (hu : ∀ i, i < n → od i = nI t → i = p) (h : pS (nI L, nI wl, nI (2 ^ wl), nI R, nI T, nI ov, nI hc, nI tn, nI m, ac, an, mem, fl, dy, fd, tree, vl, vy, vd, rl, rh, rc, rt, upd ta t (-1), tk, tv, tr, tg, nb_sh od p m)) : wpX_forget pS (nI L, nI wl, nI (2 ^ wl), nI R, nI T, nI ov, nI hc, nI tn, nI n, ac, an, mem, fl, dy, fd, tree, vl, vy, vd, rl, rh, rc, rt, ta, tk, tv, tr, tg, od) (nI t) := by
  have ct : (nI t).toNatClampNeg = t := nI_clamp (by omega)
  have key : ∀ d i, i + d = m → p ≤ i → wX_forget_18 pS (nI t) (nI L) (nI wl) (nI (2 ^ wl)) (nI R) (nI T) (nI ov) (nI hc) (nI tn) (nI m) ac an (d + 1) (nI i) mem fl dy fd tree vl vy vd rl rh rc rt ta tk tv tr tg (nb_sh od p i) := by
    intro d
    induction d with
    | zero =>
      intro i ei hpi
      obtain rfl : i = m := by omega
      exact pk_le i i (fun _ => ⟨pk_in t 16 ht, nm_r (by rw [ct]) h⟩) (fun z => absurd z (by omega))
    | succ d ih =>
      intro i ei hpi
      have c0 : (nI i).toNatClampNeg = i := nI_clamp (by omega)
      have c1 : (nI i + 1).toNatClampNeg = i + 1 := by rw [nI_1]; exact nI_clamp (by omega)
      exact pk_le m i (fun z => absurd z (by omega)) (fun _ => ⟨pk_in (i + 1) 16 (by omega) (nI_1 i), pk_in i 16 (by omega), nm_r (by rw [c0, c1, nb_shs od hpi]) (nm_r (nI_1 i) (ih (i + 1) (by omega) (by omega)))⟩)
  unfold wpX_forget
  refine nb_pl hn hp e hu (nm_r (e' := nI m) (by rw [em]; exact nI_pred m) (Exists.intro (m - p + 1) ?_))
  have k := key (m - p) p (by omega) (Nat.le_refl _)
  rw [nb_sh0] at k
  exact k
end
end
section
/-- all of the component's own invariant, under the reference's words and the tags' ghosts -/
def nb_J (L wl R T : Nat) (word kept held G Wt : Nat → Int32) (Cw : Nat → Nat) (hc : Nat) (mem fl dy fd vl vy vd rl rh rc rt ta tk tv tr tg : Nat → Int32) : Prop :=
  ∃ B : Nat → Int32, (nb_P L wl R fl vl rl) ∧ (nb_S L B mem fl dy fd vl vy vd) ∧ (nb_Q L R T word kept held G Wt Cw hc B rl rh rc rt ta tk tv tr tg)
/-- a line that is nowhere but in memory -/
def nb_nw (R : Nat) (fl vl rl : Nat → Int32) (m : Nat) : Prop := (∀ f, f < 8 → fl f ≠ nI m) ∧ (∀ s, s < 2 → vl s ≠ nI m) ∧ (∀ q, q < R → rl q ≠ nI m)
/-- the content of line l after i targets of r -/
def nb_Bi (ta tk tv rt : Nat → Int32) (r l : Nat) (B : Nat → Int32) (i : Nat) : Nat → Int32 := fun a => if a / 4 = l then nb_rp ta tk tv rt r (nI a) (B a) i else B a
theorem nb_Bi0 (ta tk tv rt : Nat → Int32) (r l : Nat) (B : Nat → Int32) : nb_Bi ta tk tv rt r l B 0 = B := by
  funext a
  unfold nb_Bi
  split <;> rfl
theorem nb_Bis {ta tk tv rt : Nat → Int32} {r l : Nat} {B : Nat → Int32} {i t a : Nat} (hl : l < 32) (ht : t < 16) (e : rt (r * 8 + i) = nI t) (ea : ta t = nI a) (eal : a / 4 = l) : upd (nb_Bi ta tk tv rt r l B i) a (nb_ap (tk t) (nb_rp ta tk tv rt r (nI a) (B a) i) (tv t)) = nb_Bi ta tk tv rt r l B (i + 1) := by
  have ct : (nI t).toNatClampNeg = t := nI_clamp (by omega)
  funext b
  by_cases z : b = a
  · subst z
    rw [pk_us]
    unfold nb_Bi
    rw [if_pos eal, nb_rp, e, ct, if_pos ea]
  · rw [pk_un z]
    unfold nb_Bi
    by_cases y : b / 4 = l
    · rw [if_pos y, if_pos y, nb_rp, e, ct, ea, if_neg (fun x => z (nb_inj (by omega) (by omega) x).symm)]
    · rw [if_neg y, if_neg y]
section
variable {L wl R T ov hc tn n : Nat} {ac an : Int32} {mem fl dy fd tree vl vy vd rl rh rc rt ta tk tv tr tg od : Nat → Int32}
variable {post : Int32 → Prop} {pS : SX → Prop} {pI : Int32 → SX → Prop}
variable {word kept held G Wt B : Nat → Int32} {Cw : Nat → Nat}
theorem nb_nwe {f s m : Nat} (hf : f < 8) (hs : s < 2) (h1 : ∀ f, f < 8 → fl f ≠ nI m) (h2 : ∀ s, s < 2 → vl s ≠ nI m) : (∀ g, g < 8 → upd fl f (vl s) g ≠ nI m) ∧ (∀ g, g < 2 → upd vl s (fl f) g ≠ nI m) := by
  constructor
  · intro g hg
    by_cases z : g = f
    · subst z; rw [pk_us]; exact h2 s hs
    · rw [pk_un z]; exact h1 g hg
  · intro g hg
    by_cases z : g = s
    · subst z; rw [pk_us]; exact h1 f hf
    · rw [pk_un z]; exact h2 g hg
theorem nb_nwu {f : Nat → Int32} {k m N : Nat} {x : Int32} (hx : x ≠ nI m) (h : ∀ i, i < N → f i ≠ nI m) : ∀ i, i < N → upd f k x i ≠ nI m := by
  intro g hg
  by_cases z : g = k
  · subst z; rw [pk_us]; exact hx
  · rw [pk_un z]; exact h g hg
theorem nb_mr35 {f s : Nat} (hL : L ≤ 32) (hf : f < 8) (hs : s < 2) (hw : f % 4 < 2 ^ wl) (hP : nb_P L wl R fl vl rl) (hS : nb_S L B mem fl dy fd vl vy vd) (e : vl s = -1)
    (h : nb_P L wl R (upd fl f (vl s)) (upd vl s (fl f)) rl → nb_S L B mem (upd fl f (vl s)) (upd dy f (vy s)) (nb_cp fd f vd s 4) (upd vl s (fl f)) (upd vy s (dy f)) (nb_cp vd s fd f 4) → pI (nI f) (nI L, nI wl, nI (2 ^ wl), nI R, nI T, nI (1 - s), nI hc, nI tn, nI n, ac, an, mem, upd fl f (vl s), upd dy f (vy s), nb_cp fd f vd s 4, tree, upd vl s (fl f), upd vy s (dy f), nb_cp vd s fd f 4, rl, rh, rc, rt, ta, tk, tv, tr, tg, od)) : wX_makeRoom_35 pI (nI f) (nI s) (nI L) (nI wl) (nI (2 ^ wl)) (nI R) (nI T) (nI ov) (nI hc) (nI tn) (nI n) ac an mem fl dy fd tree vl vy vd rl rh rc rt ta tk tv tr tg od := by
  unfold wX_makeRoom_35
  exact nb_ex hf hs (hS.2.2.2.1 f hf) (hS.2.2.2.2 s hs) (h (nb_Pe hL hP hf hs hw (fun l hl x => absurd (x.symm.trans e) (nb_l1 hL hl))) (nb_Se hf hs hS))
theorem nb_mr {s : Nat} (hL : L ≤ 32) (hw : wl ≤ 2) (hov : ov < 2) (hs : s < 2) (hP : nb_P L wl R fl vl rl) (hS : nb_S L B mem fl dy fd vl vy vd)
    (h : ∀ (w ov' : Nat) (mem' fl' dy' fd' vl' vy' vd' : Nat → Int32), w < 2 ^ wl → ov' < 2 → nb_P L wl R fl' vl' rl → nb_S L B mem' fl' dy' fd' vl' vy' vd' → fl' (s * 4 + w) = -1 →
      (∀ m, m < L → (∀ f, f < 8 → fl f ≠ nI m) → (∀ s, s < 2 → vl s ≠ nI m) → (∀ f, f < 8 → fl' f ≠ nI m) ∧ (∀ s, s < 2 → vl' s ≠ nI m)) →
      pI (nI (s * 4 + w)) (nI L, nI wl, nI (2 ^ wl), nI R, nI T, nI ov', nI hc, nI tn, nI n, ac, an, mem', fl', dy', fd', tree, vl', vy', vd', rl, rh, rc, rt, ta, tk, tv, tr, tg, od)) : wpX_makeRoom pI (nI L, nI wl, nI (2 ^ wl), nI R, nI T, nI ov, nI hc, nI tn, nI n, ac, an, mem, fl, dy, fd, tree, vl, vy, vd, rl, rh, rc, rt, ta, tk, tv, tr, tg, od) (nI s) := by
  have w4 := nb_w4 hw
  unfold wpX_makeRoom
  refine nb_cf hs hw (fun w hww => ?_)
  have cf : (nI (s * 4 + w)).toNatClampNeg = s * 4 + w := nI_clamp (by omega)
  have hf : s * 4 + w < 8 := by omega
  have hfw : (s * 4 + w) % 4 < 2 ^ wl := by omega
  refine ⟨pk_in (s * 4 + w) 8 hf, ?_⟩
  rcases hP.1 (s * 4 + w) hf with e | ⟨l, hl, e, _, _⟩
  · exact br_t (by rw [cf, e]; exact nb_neg) (h w ov mem fl dy fd vl vy vd hww hov hP hS e (fun m _ h1 h2 => ⟨h1, h2⟩))
  · refine br_f (by rw [cf, e]; exact nI_pos (by omega)) (nb_fv (fun hn => br_f (by decide) ?_) (fun j hj ej => br_t (nI_pos' (by omega)) ?_))
    · refine nb_dr hov (hP.2.1 ov hov) hL (fun m' hm => ?_)
      have hP2 := nb_Pv (s := ov) hL hP
      have hS2 := nb_Sd hL hov hP hS hm
      refine nb_mr35 hL hf hov hfw hP2 hS2 pk_us (fun hP3 hS3 => h w (1 - ov) m' _ _ _ _ _ _ hww (by omega) hP3 hS3 (by rw [pk_us, pk_us]) (fun m hm h1 h2 => ?_))
      exact nb_nwe hf hov h1 (nb_nwu (fun x => nb_l1 hL hm x.symm) h2)
    · refine nb_mr35 hL hf hj hfw hP hS ej (fun hP3 hS3 => h w (1 - j) mem _ _ _ _ _ _ hww (by omega) hP3 hS3 (by rw [pk_us, ej]) (fun m hm h1 h2 => ?_))
      exact nb_nwe hf hj h1 h2
theorem nb_rf69 {r f l c : Nat} {tr0 tg0 : Nat → Int32} (hL : L ≤ 32) (hw : wl ≤ 2) (hr : r < 8) (hf : f < 8) (hl : l < L) (hc8 : c ≤ 8) (ec : rc r = nI c) (hfl : fl f = nI l)
    (hP4 : ∀ f g l, f < 8 → g < 8 → l < L → fl f = nI l → fl g = nI l → f = g) (hP7 : ∀ f s l, f < 8 → s < 2 → l < L → fl f = nI l → vl s = nI l → False)
    (hT : ∀ i, i < c → ∃ t a, t < 16 ∧ a < L * 4 ∧ rt (r * 8 + i) = nI t ∧ ta t = nI a ∧ a / 4 = l ∧ G t = nb_rp ta tk tv rt r (nI a) (B a) i)
    (hD : ∀ i j, i < c → j < c → rt (r * 8 + i) = rt (r * 8 + j) → i = j)
    (h : ∀ (dy' fd' tree' tr' tg' : Nat → Int32), nb_S L (nb_Bi ta tk tv rt r l B c) mem fl dy' fd' vl vy vd → (∀ t, t < 16 → (∃ j, j < c ∧ rt (r * 8 + j) = nI t) → tr' t = G t ∧ tg' t = -1) → (∀ t, t < 16 → (¬ ∃ j, j < c ∧ rt (r * 8 + j) = nI t) → tr' t = tr0 t ∧ tg' t = tg0 t) → pS (nI L, nI wl, nI (2 ^ wl), nI R, nI T, nI ov, nI hc, nI tn, nI n, ac, an, mem, fl, dy', fd', tree', vl, vy, vd, upd rl r (-1), rh, upd rc r 0, rt, ta, tk, tv, tr', tg', od)) :
    ∀ d i, i + d = c → ∀ (dy fd tree tr tg : Nat → Int32), nb_S L (nb_Bi ta tk tv rt r l B i) mem fl dy fd vl vy vd → (∀ t, t < 16 → (∃ j, j < i ∧ rt (r * 8 + j) = nI t) → tr t = G t ∧ tg t = -1) → (∀ t, t < 16 → (¬ ∃ j, j < i ∧ rt (r * 8 + j) = nI t) → tr t = tr0 t ∧ tg t = tg0 t) → wX_refill_69 pS (nI r) (nI f) (d + 1) (nI i) (nI L) (nI wl) (nI (2 ^ wl)) (nI R) (nI T) (nI ov) (nI hc) (nI tn) (nI n) ac an mem fl dy fd tree vl vy vd rl rh rc rt ta tk tv tr tg od := by
  have cr : (nI r).toNatClampNeg = r := nI_clamp (by omega)
  intro d
  induction d with
  | zero =>
    intro i ei dy fd tree tr tg hS h1 h2
    obtain rfl : i = c := by omega
    exact And.intro (pk_in r 8 hr) (br_t (by rw [cr, ec]; exact Int32.le_refl _) ⟨pk_in r 8 hr, nm_r (by rw [cr]) ⟨pk_in r 8 hr, nm_r (by rw [cr]) (h dy fd tree tr tg hS h1 h2)⟩⟩)
  | succ d ih =>
    intro i ei dy fd tree tr tg hS h1 h2
    obtain ⟨t, a, ht, ha, et, ea, eal, eG⟩ := hT i (by omega)
    have c1 : (nI r * 8 + nI i).toNatClampNeg = r * 8 + i := by rw [nb_i8]; exact nI_clamp (by omega)
    have hold : fd (f * 4 + a % 4) = G t := by
      rw [(hS.1 f l (a % 4) hf hl hfl (by omega)).1, ← eal, nb_a4, eG]
      exact if_pos rfl
    have hla : l * 4 + a % 4 = a := by omega
    refine And.intro (pk_in r 8 hr) (br_f (by rw [cr, ec]; exact nI_ge (by omega) (by omega)) ⟨pk_in (r * 8 + i) 64 (by omega) (nb_i8 r i), ?_⟩)
    rw [c1, et]
    refine nb_sv ht hf (by omega) hw ea (fun tree' dy' hdy => nm_r (nI_1 i) (ih (i + 1) (by omega) dy' _ tree' _ _ ?_ ?_ ?_))
    · have k := nb_Sw (x := nb_ap (tk t) (fd (f * 4 + a % 4)) (tv t)) (k := a % 4) (dy' := dy') hL hf hl (by omega) hP4 hP7 hS hfl (by
        rcases hdy with ⟨y1, y2⟩ | y
        · exact Or.inl ⟨y1, by rw [y2, (hS.1 f l (a % 4) hf hl hfl (by omega)).1]⟩
        · exact Or.inr y)
      rw [hla, hold, eG, nb_Bis (by omega) ht et ea eal] at k
      rw [hold, eG]
      exact k
    · intro t' ht' ⟨j, hj, ej⟩
      by_cases z : t' = t
      · subst z
        rw [pk_us, pk_us]
        exact ⟨hold, rfl⟩
      · rw [pk_un z, pk_un z]
        refine h1 t' ht' ⟨j, ?_, ej⟩
        by_cases y : j = i
        · subst y
          exact absurd (nb_inj (by omega) (by omega) (ej.symm.trans et)) z
        · omega
    · intro t' ht' hn
      have z : t' ≠ t := fun z => hn ⟨i, by omega, by rw [z]; exact et⟩
      rw [pk_un z, pk_un z]
      exact h2 t' ht' (fun ⟨j, hj, ej⟩ => hn ⟨j, by omega, ej⟩)
theorem nb_rf {r l : Nat} (hL : L ≤ 32) (hw : wl ≤ 2) (hR : R ≤ 8) (hT : T ≤ 8) (hov : ov < 2) (hJ : nb_J L wl R T word kept held G Wt Cw hc mem fl dy fd vl vy vd rl rh rc rt ta tk tv tr tg) (hr : r < R) (hl : l < L) (e : rl r = nI l) (hh : rh r = 0)
    (h : ∀ (ov' : Nat) (mem' fl' dy' fd' tree' vl' vy' vd' tr' tg' : Nat → Int32), ov' < 2 → nb_J L wl R T word kept held G Wt Cw hc mem' fl' dy' fd' vl' vy' vd' (upd rl r (-1)) rh (upd rc r 0) rt ta tk tv tr' tg' → (∀ t, t < 16 → tg t = -1 → tg' t = -1) → (∀ m, m < L → nb_nw R fl vl rl m → nb_nw R fl' vl' (upd rl r (-1)) m) →
      pS (nI L, nI wl, nI (2 ^ wl), nI R, nI T, nI ov', nI hc, nI tn, nI n, ac, an, mem', fl', dy', fd', tree', vl', vy', vd', upd rl r (-1), rh, upd rc r 0, rt, ta, tk, tv, tr', tg', od)) : wpX_refill pS (nI L, nI wl, nI (2 ^ wl), nI R, nI T, nI ov, nI hc, nI tn, nI n, ac, an, mem, fl, dy, fd, tree, vl, vy, vd, rl, rh, rc, rt, ta, tk, tv, tr, tg, od) (nI r) := by
  have w4 := nb_w4 hw
  have cr : (nI r).toNatClampNeg = r := nI_clamp (by omega)
  obtain ⟨B, hP, hS, hQ⟩ := hJ
  obtain ⟨c, w1, w2, w3, w5, w6, w7, w8⟩ := hQ.2.1 r l hr hl e
  unfold wpX_refill
  refine And.intro (pk_in r 8 (by omega)) (nm_r (e' := nI l) (by rw [cr, e]) ⟨nb_n2, ?_⟩)
  rw [nb_r2 (by omega)]
  refine nb_mr hL hw hov (by omega) hP hS (fun w ov' mem' fl' dy' fd' vl' vy' vd' hww hov' hP' hS' he hnw => Exists.intro 5 (nb_rf18s (by omega) (by omega) (Exists.intro (c + 1) ?_)))
  have hf : l % 2 * 4 + w < 8 := by omega
  have nF : ∀ g, g < 8 → fl' g ≠ nI l := fun g hg x => hP'.2.2.2.2.2.2.2.1 g r l hg hr hl x e
  have nV : ∀ g, g < 2 → vl' g ≠ nI l := fun g hg x => hP'.2.2.2.2.2.2.2.2 g r l hg hr hl x e
  have hP2 := nb_Pm hL hP' hf hr hl (by omega) (by omega) he e
  have hS2 := nb_Sl hL hf hl hS' he nF nV
  refine nb_rf69 (B := B) (G := G) (tr0 := tr) (tg0 := tg) (c := c) (l := l) (hL) hw (by omega) hf hl (by omega) w2 pk_us hP2.2.2.2.1 hP2.2.2.2.2.2.2.1 (fun i hi => ?_) w5 (fun dy2 fd2 tree2 tr2 tg2 hS3 t1 t2 => ?_) c 0 (by omega) _ _ _ _ _ ?_ ?_ ?_
  · obtain ⟨t, a, v1, v2, v3, v4, v5, v6, v7, v8⟩ := w3 i hi
    exact ⟨t, a, v1, v2, v3, v5, v6, v7⟩
  · have h1 : ∀ t, t < 16 → tg t = nI r → tr2 t = G t ∧ tg2 t = -1 := by
      intro t ht z
      refine t1 t ht ?_
      obtain ⟨q, m, c', i, a, v1, v2, v3, v4, v5, v6, v7, v8, v9, va, vb, vc, vd⟩ := nb_Qt hT hL hQ ht (by rw [z]; exact nb_n1 (by omega))
      obtain rfl := nb_inj (by omega) (by omega) (z.symm.trans v6)
      obtain rfl := nb_inj (by omega) (by omega) (w2.symm.trans v8)
      exact ⟨i, v4, v9⟩
    have h2 : ∀ t, t < 16 → tg t ≠ nI r → tr2 t = tr t ∧ tg2 t = tg t := by
      intro t ht z
      refine t2 t ht (fun ⟨j, hj, ej⟩ => ?_)
      obtain ⟨t', a, v1, v2, v3, v4, v5, v6, v7, v8⟩ := w3 j hj
      obtain rfl := nb_inj (by omega) (by omega) (ej.symm.trans v3)
      exact z v4
    refine h ov' mem' _ dy2 fd2 tree2 vl' vy' vd' tr2 tg2 hov' ⟨_, hP2, hS3, nb_Qr hL hR hT hP.2.2.2.2.2.1 hQ hr hl e hh (by omega) w2 (fun q k hq hk => ?_) h1 h2⟩ (fun t ht z => ?_) (fun m hm hn => ?_)
    · unfold nb_Bi
      rw [show (q * 4 + k) / 4 = q by omega]
    · rw [(h2 t ht (by rw [z]; exact fun x => nb_n1 (by omega) x.symm)).2]
      exact z
    · obtain ⟨n1, n2, n3⟩ := hn
      obtain ⟨m1, m2⟩ := hnw m hm n1 n2
      exact ⟨nb_nwu (fun x => n3 r hr (by rw [← x]; exact e)) m1, m2, nb_nwu (fun x => nb_l1 hL hm x.symm) n3⟩
  · rw [nb_Bi0]
    exact hS2
  · intro t ht ⟨j, hj, _⟩
    exact absurd hj (by omega)
  · intro t ht _
    exact ⟨rfl, rfl⟩
theorem nb_sb {l : Nat} (hL : L ≤ 32) (hw : wl ≤ 2) (hJ : nb_J L wl R T word kept held G Wt Cw hc mem fl dy fd vl vy vd rl rh rc rt ta tk tv tr tg) (hl : l < L)
    (h0 : (∀ s, s < 2 → vl s ≠ nI l) → pI (-1) (nI L, nI wl, nI (2 ^ wl), nI R, nI T, nI ov, nI hc, nI tn, nI n, ac, an, mem, fl, dy, fd, tree, vl, vy, vd, rl, rh, rc, rt, ta, tk, tv, tr, tg, od))
    (h1 : ∀ (f ov' : Nat) (fl' dy' fd' vl' vy' vd' : Nat → Int32), f < 8 → ov' < 2 → nb_J L wl R T word kept held G Wt Cw hc mem fl' dy' fd' vl' vy' vd' rl rh rc rt ta tk tv tr tg → fl' f = nI l → pI (nI f) (nI L, nI wl, nI (2 ^ wl), nI R, nI T, nI ov', nI hc, nI tn, nI n, ac, an, mem, fl', dy', fd', tree, vl', vy', vd', rl, rh, rc, rt, ta, tk, tv, tr, tg, od)) : wpX_swapBack pI (nI L, nI wl, nI (2 ^ wl), nI R, nI T, nI ov, nI hc, nI tn, nI n, ac, an, mem, fl, dy, fd, tree, vl, vy, vd, rl, rh, rc, rt, ta, tk, tv, tr, tg, od) (nI l) := by
  have w4 := nb_w4 hw
  obtain ⟨B, hP, hS, hQ⟩ := hJ
  unfold wpX_swapBack
  refine nb_fv (fun hn => br_f (by decide) (h0 hn)) (fun s hs es => br_t (nI_pos' (by omega)) ⟨nb_n2, ?_⟩)
  rw [nb_r2 (by omega)]
  refine nb_cf (by omega) hw (fun w hww => ?_)
  have hf : l % 2 * 4 + w < 8 := by omega
  refine nb_ex hf hs (hS.2.2.2.1 _ hf) (hS.2.2.2.2 s hs) (h1 _ (1 - s) _ _ _ _ _ _ hf (by omega) ⟨B, nb_Pe hL hP hf hs (by omega) (fun m hm em => ?_), nb_Se hf hs hS, hQ⟩ (by rw [pk_us]; exact es))
  obtain rfl := nb_li hL hm hl (em.symm.trans es)
  omega
theorem nb_or20 {l r : Nat} (hr : r < 8) (h : pI (nI r) (nI L, nI wl, nI (2 ^ wl), nI R, nI T, nI ov, nI hc, nI tn, nI n, ac, an, mem, fl, dy, fd, tree, vl, vy, vd, upd rl r (nI l), upd rh r 0, upd rc r 0, rt, ta, tk, tv, tr, tg, od)) : wX_openRegister_20 pI (nI l) (nI r) (nI L) (nI wl) (nI (2 ^ wl)) (nI R) (nI T) (nI ov) (nI hc) (nI tn) (nI n) ac an mem fl dy fd tree vl vy vd rl rh rc rt ta tk tv tr tg od := by
  have cr : (nI r).toNatClampNeg = r := nI_clamp (by omega)
  exact And.intro (pk_in r 8 hr) (nm_r (by rw [cr]) ⟨pk_in r 8 hr, nm_r (by rw [cr]; rfl) ⟨pk_in r 8 hr, nm_r (by rw [cr]) h⟩⟩)
theorem nb_Jo {l r : Nat} (hL : L ≤ 32) (hJ : nb_J L wl R T word kept held G Wt Cw hc mem fl dy fd vl vy vd rl rh rc rt ta tk tv tr tg) (hl : l < L) (hr : r < R) (hn : nb_nw R fl vl rl l) (e : rl r = -1) : nb_J L wl R T word kept held G Wt Cw hc mem fl dy fd vl vy vd (upd rl r (nI l)) (upd rh r 0) (upd rc r 0) rt ta tk tv tr tg := by
  obtain ⟨B, hP, hS, hQ⟩ := hJ
  exact ⟨B, nb_Po hL hP hr hl hn.1 hn.2.1 hn.2.2, hS, nb_Qo hL hQ hr hl e hn.2.2⟩
theorem nb_or {l : Nat} (hL : L ≤ 32) (hw : wl ≤ 2) (hR : R ≤ 8) (hT : T ≤ 8) (hov : ov < 2) (htn : tn < R) (hhc : hc + 1 ≤ R) (hJ : nb_J L wl R T word kept held G Wt Cw hc mem fl dy fd vl vy vd rl rh rc rt ta tk tv tr tg) (hl : l < L) (hn : nb_nw R fl vl rl l)
    (h : ∀ (r ov' tn' : Nat) (mem' fl' dy' fd' tree' vl' vy' vd' rl' rh' rc' tr' tg' : Nat → Int32), r < R → ov' < 2 → tn' < R → nb_J L wl R T word kept held G Wt Cw hc mem' fl' dy' fd' vl' vy' vd' rl' rh' rc' rt ta tk tv tr' tg' → rl' r = nI l → rh' r = 0 → rc' r = 0 → (∀ t, t < 16 → tg t = -1 → tg' t = -1) →
      pI (nI r) (nI L, nI wl, nI (2 ^ wl), nI R, nI T, nI ov', nI hc, nI tn', nI n, ac, an, mem', fl', dy', fd', tree', vl', vy', vd', rl', rh', rc', rt, ta, tk, tv, tr', tg', od)) : wpX_openRegister pI (nI L, nI wl, nI (2 ^ wl), nI R, nI T, nI ov, nI hc, nI tn, nI n, ac, an, mem, fl, dy, fd, tree, vl, vy, vd, rl, rh, rc, rt, ta, tk, tv, tr, tg, od) (nI l) := by
  unfold wpX_openRegister
  refine nb_fr hR (fun hno => br_f (by decide) ?_) (fun r hr er => br_t (nI_pos' (by omega)) (nb_or20 (by omega) (h r ov tn mem fl dy fd tree vl vy vd _ _ _ tr tg hr hov htn (nb_Jo hL hJ hl hr hn er) pk_us pk_us pk_us (fun t _ z => z))))
  have hv : ∀ q, q < R → rl q = -1 ∨ ∃ l, l < L ∧ rl q = nI l := by
    obtain ⟨B, hP, hS, hQ⟩ := hJ
    exact hP.2.2.1
  have ho : ∃ q, q < R ∧ rh q = 0 := by
    obtain ⟨B, hP, hS, hQ⟩ := hJ
    have h8 := hQ.2.2.2.2.2.2.2
    obtain ⟨q, hq, eq⟩ := nb_cnpos (p := fun r => decide (rh r ≠ 0)) (n := R) (by omega)
    exact ⟨q, hq, by simpa using eq⟩
  obtain ⟨q0, hq0, eq0⟩ := ho
  refine nb_nx hR hL htn hv hq0 ⟨hno q0 hq0, eq0⟩ (fun q m hq hm e1 e2 => ?_)
  refine nb_rf (tn := q) hL hw hR hT hov hJ hq hm e1 e2 (fun ov' mem' fl' dy' fd' tree' vl' vy' vd' tr' tg' hov' hJ' ht' hnw => ?_)
  exact nb_or20 (tn := q) (by omega) (h q ov' q mem' fl' dy' fd' tree' vl' vy' vd' _ _ _ tr' tg' hq hov' hq (nb_Jo hL hJ' hl hq (hnw l hl hn) pk_us) pk_us pk_us pk_us ht')
theorem nb_mg {r t c : Nat} (hr : r < 8) (ht : t < 16) (hc8 : c < 8) (ec : rc r = nI c) (h : pS (nI L, nI wl, nI (2 ^ wl), nI R, nI T, nI ov, nI hc, nI tn, nI n, ac, an, mem, fl, dy, fd, tree, vl, vy, vd, rl, rh, upd rc r (nI (c + 1)), upd rt (r * 8 + c) (nI t), ta, tk, tv, tr, upd tg t (nI r), od)) : wpX_merge pS (nI L, nI wl, nI (2 ^ wl), nI R, nI T, nI ov, nI hc, nI tn, nI n, ac, an, mem, fl, dy, fd, tree, vl, vy, vd, rl, rh, rc, rt, ta, tk, tv, tr, tg, od) (nI r) (nI t) := by
  have cr : (nI r).toNatClampNeg = r := nI_clamp (by omega)
  have ct : (nI t).toNatClampNeg = t := nI_clamp (by omega)
  have e1 : nI r * 8 + rc (nI r).toNatClampNeg = nI (r * 8 + c) := by rw [cr, ec, nb_i8]
  have c1 : (nI r * 8 + rc (nI r).toNatClampNeg).toNatClampNeg = r * 8 + c := by rw [e1]; exact nI_clamp (by omega)
  exact And.intro (pk_in r 8 hr) ⟨pk_in (r * 8 + c) 64 (by omega) e1, nm_r (by rw [c1]) ⟨pk_in r 8 hr, pk_in r 8 hr, nm_r (by rw [cr, ec, nI_1]) ⟨pk_in t 16 ht, nm_r (by rw [ct]) h⟩⟩⟩
theorem nb_rcl22 {l : Nat} (hL : L ≤ 32) (hl : l < L) (hP : nb_P L wl R fl vl rl) (hS : nb_S L B mem fl dy fd vl vy vd) (hF : ∀ f, f < 8 → fl f ≠ nI l)
    (h : ∀ (mem' vl' vy' : Nat → Int32), nb_P L wl R fl vl' rl → nb_S L B mem' fl dy fd vl' vy' vd → (∀ s, s < 2 → vl' s ≠ nI l) → pS (nI L, nI wl, nI (2 ^ wl), nI R, nI T, nI ov, nI hc, nI tn, nI n, ac, an, mem', fl, dy, fd, tree, vl', vy', vd, rl, rh, rc, rt, ta, tk, tv, tr, tg, od)) : wX_recall_22 pS (nI l) (nI L) (nI wl) (nI (2 ^ wl)) (nI R) (nI T) (nI ov) (nI hc) (nI tn) (nI n) ac an mem fl dy fd tree vl vy vd rl rh rc rt ta tk tv tr tg od := by
  unfold wX_recall_22
  refine nb_fv (fun hn => br_t nb_neg (h mem vl vy hP hS hn)) (fun s hs es => br_f (nI_pos (by omega)) (nb_dr hs (hP.2.1 s hs) hL (fun m' hm => h m' _ _ (nb_Pv hL hP) (nb_Sd hL hs hP hS hm) (fun g hg x => ?_))))
  by_cases z : g = s
  · subst z
    rw [pk_us] at x
    exact nb_l1 hL hl x.symm
  · rw [pk_un z] at x
    exact z (hP.2.2.2.2.1 g s l hg hs hl x es)
theorem nb_rcl {l : Nat} (hL : L ≤ 32) (hw : wl ≤ 2) (hJ : nb_J L wl R T word kept held G Wt Cw hc mem fl dy fd vl vy vd rl rh rc rt ta tk tv tr tg) (hl : l < L) (hno : ∀ q, q < R → rl q ≠ nI l)
    (h : ∀ (mem' fl' dy' vl' vy' : Nat → Int32), nb_J L wl R T word kept held G Wt Cw hc mem' fl' dy' fd vl' vy' vd rl rh rc rt ta tk tv tr tg → nb_nw R fl' vl' rl l → pS (nI L, nI wl, nI (2 ^ wl), nI R, nI T, nI ov, nI hc, nI tn, nI n, ac, an, mem', fl', dy', fd, tree, vl', vy', vd, rl, rh, rc, rt, ta, tk, tv, tr, tg, od)) : wpX_recall pS (nI L, nI wl, nI (2 ^ wl), nI R, nI T, nI ov, nI hc, nI tn, nI n, ac, an, mem, fl, dy, fd, tree, vl, vy, vd, rl, rh, rc, rt, ta, tk, tv, tr, tg, od) (nI l) := by
  have w4 := nb_w4 hw
  obtain ⟨B, hP, hS, hQ⟩ := hJ
  unfold wpX_recall
  refine nb_ff (by omega) hw (fun hn => br_t nb_neg ?_) (fun w hww ew => br_f (nI_pos (by omega)) ?_)
  · have hF : ∀ f, f < 8 → fl f ≠ nI l := by
      intro f hf x
      rcases hP.1 f hf with y | ⟨m, hm, em, y1, y2⟩
      · exact nb_l1 hL hl (x.symm.trans y)
      · obtain rfl := nb_li hL hm hl (em.symm.trans x)
        refine hn (f % 4) y2 ?_
        rw [← y1, show f / 4 * 4 + f % 4 = f by omega]
        exact x
    exact nb_rcl22 hL hl hP hS hF (fun mem' vl' vy' hP' hS' hV' => h mem' fl dy vl' vy' ⟨B, hP', hS', hQ⟩ ⟨hF, hV', hno⟩)
  · have hf : l % 2 * 4 + w < 8 := by omega
    have cf : (nI (l % 2 * 4 + w)).toNatClampNeg = l % 2 * 4 + w := nI_clamp (by omega)
    refine nb_cl hf (Or.inr ⟨l, hl, ew⟩) hL (fun m' hm => ⟨pk_in _ 8 hf, nm_r (by rw [cf]) ?_⟩)
    obtain ⟨hS1, hm1⟩ := nb_Sc hL hf hP hS hm
    have hS2 := nb_Sf hL hf hS1 hm1
    have hP2 := nb_Pf (f := l % 2 * 4 + w) hL hP
    have hF : ∀ f, f < 8 → upd fl (l % 2 * 4 + w) (-1) f ≠ nI l := by
      intro f hf' x
      by_cases z : f = l % 2 * 4 + w
      · rw [z, pk_us] at x
        exact nb_l1 hL hl x.symm
      · rw [pk_un z] at x
        exact z (hP.2.2.2.1 f _ l hf' hf hl x ew)
    exact nb_rcl22 hL hl hP2 hS2 hF (fun mem' vl' vy' hP' hS' hV' => h mem' _ _ vl' vy' ⟨B, hP', hS', hQ⟩ ⟨hF, hV', hno⟩)
end
end
section
section
variable {L wl R T ov hc tn n : Nat} {ac an : Int32} {mem fl dy fd tree vl vy vd rl rh rc rt ta tk tv tr tg od : Nat → Int32}
variable {post : Int32 → Prop} {pS : SX → Prop} {pI : Int32 → SX → Prop}
variable {word kept held G Wt B : Nat → Int32} {Cw Cw' : Nat → Nat}
theorem nb_dps {t a f : Nat} (hL : L ≤ 32) (hw : wl ≤ 2) (hR : R ≤ 8) (hov : ov < 2) (htn : tn < R) (hJ : nb_J L wl R T word kept held G Wt Cw hc mem fl dy fd vl vy vd rl rh rc rt ta tk tv tr tg) (ht : t < 16) (ha : a < L * 4) (eta : ta t = nI a) (etg : tg t = -1) (hf : f < 8) (ef : fl f = nI (a / 4)) (hC1 : ∀ q, q < L → q ≠ a / 4 → Cw' q = Cw q)
    (h : ∀ (ov' tn' : Nat) (mem' fl' dy' fd' tree' vl' vy' vd' rl' rh' rc' rt' tr' tg' : Nat → Int32), ov' < 2 → tn' < R → nb_J L wl R T (upd word a (nb_ap (tk t) (word a) (tv t))) kept held (upd G t (word a)) (upd Wt t (held (a / 4))) Cw' hc mem' fl' dy' fd' vl' vy' vd' rl' rh' rc' rt' ta tk tv tr' tg' → pS (nI L, nI wl, nI (2 ^ wl), nI R, nI T, nI ov', nI hc, nI tn', nI n, ac, an, mem', fl', dy', fd', tree', vl', vy', vd', rl', rh', rc', rt', ta, tk, tv, tr', tg', od)) : wpX_serve pS (nI L, nI wl, nI (2 ^ wl), nI R, nI T, nI ov, nI hc, nI tn, nI n, ac, an, mem, fl, dy, fd, tree, vl, vy, vd, rl, rh, rc, rt, ta, tk, tv, tr, tg, od) (nI t) (nI f) := by
  obtain ⟨B, hP, hS, hQ⟩ := hJ
  have hno : ∀ q, q < R → rl q ≠ nI (a / 4) := fun q hq x => hP.2.2.2.2.2.2.2.1 f q (a / 4) hf hq (by omega) ef x
  have hWB := nb_Qw hQ ha hno
  have e : fd (f * 4 + a % 4) = word a := by
    rw [(hS.1 f (a / 4) (a % 4) hf (by omega) ef (by omega)).1, nb_a4, hWB]
  have eh : held (a / 4) = 0 := hQ.2.2.2.1 (a / 4) (by omega) hno
  refine nb_sv ht hf (by omega) hw eta (fun tree' dy' hdy => ?_)
  rw [e] at hdy ⊢
  have hS2 := nb_Sw (x := nb_ap (tk t) (word a) (tv t)) (k := a % 4) (dy' := dy') hL hf (by omega) (by omega) hP.2.2.2.1 hP.2.2.2.2.2.2.1 hS ef (by
    rcases hdy with ⟨y1, y2⟩ | y
    · exact Or.inl ⟨y1, by rw [y2, nb_a4, hWB]⟩
    · exact Or.inr y)
  rw [nb_a4] at hS2
  have hQ2 := nb_Qc (Cw' := Cw') (nb_Qs (nb_ap (tk t) (word a) (tv t)) hL hR hQ ht eta ha etg hno) (fun l hl x => hC1 l hl (fun y => x (by rw [y]; exact eh)))
  rw [← eh] at hQ2
  exact h ov tn mem fl dy' _ tree' vl vy vd rl rh rc rt _ _ hov htn ⟨_, hP, hS2, hQ2⟩
theorem nb_dpm {t a r c : Nat} (hL : L ≤ 32) (hR : R ≤ 8) (hT : T ≤ 8) (hov : ov < 2) (htn : tn < R) (hJ : nb_J L wl R T word kept held G Wt Cw hc mem fl dy fd vl vy vd rl rh rc rt ta tk tv tr tg) (ht : t < 16) (ha : a < L * 4) (eta : ta t = nI a) (etg : tg t = -1) (hr : r < R) (er : rl r = nI (a / 4)) (ec : rc r = nI c) (hcT : c < T) (hC1 : ∀ q, q < L → q ≠ a / 4 → Cw' q = Cw q) (hC2 : held (a / 4) ≠ 0 → Cw' (a / 4) = Cw (a / 4) + 1)
    (h : ∀ (ov' tn' : Nat) (mem' fl' dy' fd' tree' vl' vy' vd' rl' rh' rc' rt' tr' tg' : Nat → Int32), ov' < 2 → tn' < R → nb_J L wl R T (upd word a (nb_ap (tk t) (word a) (tv t))) kept held (upd G t (word a)) (upd Wt t (held (a / 4))) Cw' hc mem' fl' dy' fd' vl' vy' vd' rl' rh' rc' rt' ta tk tv tr' tg' → pS (nI L, nI wl, nI (2 ^ wl), nI R, nI T, nI ov', nI hc, nI tn', nI n, ac, an, mem', fl', dy', fd', tree', vl', vy', vd', rl', rh', rc', rt', ta, tk, tv, tr', tg', od)) : wpX_merge pS (nI L, nI wl, nI (2 ^ wl), nI R, nI T, nI ov, nI hc, nI tn, nI n, ac, an, mem, fl, dy, fd, tree, vl, vy, vd, rl, rh, rc, rt, ta, tk, tv, tr, tg, od) (nI r) (nI t) := by
  obtain ⟨B, hP, hS, hQ⟩ := hJ
  obtain ⟨c', w1, w2, w3, w4, w5, w6, w7⟩ := hQ.2.1 r (a / 4) hr (by omega) er
  have hQ2 := nb_Qm hL hR hT hP.2.2.2.2.2.1 hQ hr (by omega) er ec hcT ht eta ha rfl etg hC1 (fun x => hC2 (by rw [w6]; exact x))
  rw [← w6] at hQ2
  exact nb_mg (by omega) ht (by omega) ec (h ov tn mem fl dy fd tree vl vy vd rl rh _ _ tr _ hov htn ⟨B, hP, hS, hQ2⟩)
theorem nb_dp52 {t a : Nat} {x : Int32} (hL : L ≤ 32) (hw : wl ≤ 2) (hR : R ≤ 8) (hT : T ≤ 8) (hT1 : 1 ≤ T) (hov : ov < 2) (htn : tn < R) (hhc : hc + 1 ≤ R) (hJ : nb_J L wl R T word kept held G Wt Cw hc mem fl dy fd vl vy vd rl rh rc rt ta tk tv tr tg) (ht : t < 16) (ha : a < L * 4) (eta : ta t = nI a) (etg : tg t = -1) (hx : (x = -1 ∧ nb_nw R fl vl rl (a / 4)) ∨ ∃ f, f < 8 ∧ x = nI f ∧ fl f = nI (a / 4)) (hC1 : ∀ q, q < L → q ≠ a / 4 → Cw' q = Cw q) (hC2 : held (a / 4) ≠ 0 → Cw' (a / 4) = Cw (a / 4) + 1)
    (h : ∀ (ov' tn' : Nat) (mem' fl' dy' fd' tree' vl' vy' vd' rl' rh' rc' rt' tr' tg' : Nat → Int32), ov' < 2 → tn' < R → nb_J L wl R T (upd word a (nb_ap (tk t) (word a) (tv t))) kept held (upd G t (word a)) (upd Wt t (held (a / 4))) Cw' hc mem' fl' dy' fd' vl' vy' vd' rl' rh' rc' rt' ta tk tv tr' tg' → pS (nI L, nI wl, nI (2 ^ wl), nI R, nI T, nI ov', nI hc, nI tn', nI n, ac, an, mem', fl', dy', fd', tree', vl', vy', vd', rl', rh', rc', rt', ta, tk, tv, tr', tg', od)) : wX_dispatch_52 pS (nI t) (nI (a / 4)) x (nI L) (nI wl) (nI (2 ^ wl)) (nI R) (nI T) (nI ov) (nI hc) (nI tn) (nI n) ac an mem fl dy fd tree vl vy vd rl rh rc rt ta tk tv tr tg od := by
  rcases hx with ⟨rfl, hn⟩ | ⟨f, hf, rfl, ef⟩
  · refine br_t nb_neg ?_
    refine nb_or hL hw hR hT hov htn hhc hJ (by omega) hn (fun r ov' tn' mem' fl' dy' fd' tree' vl' vy' vd' rl' rh' rc' tr' tg' hr hov' htn' hJ' e1 e2 e3 ht' => ?_)
    exact nb_dpm hL hR hT hov' htn' hJ' ht ha eta (ht' t ht etg) hr e1 (c := 0) (by rw [e3, nI_0]) (by omega) hC1 hC2 h
  · exact br_f (nI_pos (by omega)) (nb_dps hL hw hR hov htn hJ ht ha eta etg hf ef hC1 h)
theorem nb_dp33 {t a : Nat} (hL : L ≤ 32) (hw : wl ≤ 2) (hR : R ≤ 8) (hT : T ≤ 8) (hT1 : 1 ≤ T) (hov : ov < 2) (htn : tn < R) (hhc : hc + 1 ≤ R) (hJ : nb_J L wl R T word kept held G Wt Cw hc mem fl dy fd vl vy vd rl rh rc rt ta tk tv tr tg) (ht : t < 16) (ha : a < L * 4) (eta : ta t = nI a) (etg : tg t = -1) (hno : ∀ q, q < R → rl q ≠ nI (a / 4)) (hC1 : ∀ q, q < L → q ≠ a / 4 → Cw' q = Cw q) (hC2 : held (a / 4) ≠ 0 → Cw' (a / 4) = Cw (a / 4) + 1)
    (h : ∀ (ov' tn' : Nat) (mem' fl' dy' fd' tree' vl' vy' vd' rl' rh' rc' rt' tr' tg' : Nat → Int32), ov' < 2 → tn' < R → nb_J L wl R T (upd word a (nb_ap (tk t) (word a) (tv t))) kept held (upd G t (word a)) (upd Wt t (held (a / 4))) Cw' hc mem' fl' dy' fd' vl' vy' vd' rl' rh' rc' rt' ta tk tv tr' tg' → pS (nI L, nI wl, nI (2 ^ wl), nI R, nI T, nI ov', nI hc, nI tn', nI n, ac, an, mem', fl', dy', fd', tree', vl', vy', vd', rl', rh', rc', rt', ta, tk, tv, tr', tg', od)) : wX_dispatch_33 pS (nI t) (nI (a / 4)) (nI L) (nI wl) (nI (2 ^ wl)) (nI R) (nI T) (nI ov) (nI hc) (nI tn) (nI n) ac an mem fl dy fd tree vl vy vd rl rh rc rt ta tk tv tr tg od := by
  have w4 := nb_w4 hw
  unfold wX_dispatch_33
  refine nb_ff (by omega) hw (fun hn => br_f (by decide) ?_) (fun w hww ew => br_t (nI_pos' (by omega)) ?_)
  · refine nb_sb hL hw hJ (by omega) (fun hv => ?_) (fun f ov' fl' dy' fd' vl' vy' vd' hf hov' hJ' ef => ?_)
    · refine nb_dp52 hL hw hR hT hT1 hov htn hhc hJ ht ha eta etg (Or.inl ⟨rfl, ?_, hv, hno⟩) hC1 hC2 h
      obtain ⟨B, hP, hS, hQ⟩ := hJ
      intro f hf x
      rcases hP.1 f hf with y | ⟨m, hm, em, y1, y2⟩
      · exact nb_n1 (a := a / 4) (by omega) (x.symm.trans y)
      · obtain rfl := nb_li hL hm (by omega) (em.symm.trans x)
        refine hn (f % 4) y2 ?_
        rw [← y1, show f / 4 * 4 + f % 4 = f by omega]
        exact x
    · exact nb_dp52 hL hw hR hT hT1 hov' htn hhc hJ' ht ha eta etg (Or.inr ⟨f, hf, rfl, ef⟩) hC1 hC2 h
  · exact nb_dp52 hL hw hR hT hT1 hov htn hhc hJ ht ha eta etg (Or.inr ⟨_, by omega, rfl, ew⟩) hC1 hC2 h
theorem nb_dp24 {t a : Nat} {x : Int32} (hL : L ≤ 32) (hw : wl ≤ 2) (hR : R ≤ 8) (hT : T ≤ 8) (hT1 : 1 ≤ T) (hov : ov < 2) (htn : tn < R) (hhc : hc + 1 ≤ R) (hJ : nb_J L wl R T word kept held G Wt Cw hc mem fl dy fd vl vy vd rl rh rc rt ta tk tv tr tg) (ht : t < 16) (ha : a < L * 4) (eta : ta t = nI a) (etg : tg t = -1) (hx : (x = -1 ∧ ∀ q, q < R → rl q ≠ nI (a / 4)) ∨ ∃ r, r < R ∧ x = nI r ∧ rl r = nI (a / 4) ∧ rh r = 0) (hC1 : ∀ q, q < L → q ≠ a / 4 → Cw' q = Cw q) (hC2 : held (a / 4) ≠ 0 → Cw' (a / 4) = Cw (a / 4) + 1)
    (h : ∀ (ov' tn' : Nat) (mem' fl' dy' fd' tree' vl' vy' vd' rl' rh' rc' rt' tr' tg' : Nat → Int32), ov' < 2 → tn' < R → nb_J L wl R T (upd word a (nb_ap (tk t) (word a) (tv t))) kept held (upd G t (word a)) (upd Wt t (held (a / 4))) Cw' hc mem' fl' dy' fd' vl' vy' vd' rl' rh' rc' rt' ta tk tv tr' tg' → pS (nI L, nI wl, nI (2 ^ wl), nI R, nI T, nI ov', nI hc, nI tn', nI n, ac, an, mem', fl', dy', fd', tree', vl', vy', vd', rl', rh', rc', rt', ta, tk, tv, tr', tg', od)) : wX_dispatch_24 pS (nI t) (nI (a / 4)) x (nI L) (nI wl) (nI (2 ^ wl)) (nI R) (nI T) (nI ov) (nI hc) (nI tn) (nI n) ac an mem fl dy fd tree vl vy vd rl rh rc rt ta tk tv tr tg od := by
  rcases hx with ⟨rfl, hn⟩ | ⟨r, hr, rfl, er, eh⟩
  · exact br_t nb_neg (nb_dp33 hL hw hR hT hT1 hov htn hhc hJ ht ha eta etg hn hC1 hC2 h)
  · refine br_f (nI_pos (by omega)) ?_
    refine nb_rf hL hw hR hT hov hJ hr (by omega) er eh (fun ov' mem' fl' dy' fd' tree' vl' vy' vd' tr' tg' hov' hJ' ht' hnw => ?_)
    refine nb_dp33 hL hw hR hT hT1 hov' htn hhc hJ' ht ha eta (ht' t ht etg) (fun q hq x => ?_) hC1 hC2 h
    by_cases z : q = r
    · subst z
      rw [pk_us] at x
      exact nb_n1 (a := a / 4) (by omega) x.symm
    · rw [pk_un z] at x
      obtain ⟨B, hP, hS, hQ⟩ := hJ
      exact z (hP.2.2.2.2.2.1 q r (a / 4) hq hr (by omega) x er)
theorem nb_dp {t a : Nat} {x : Int32} (hL : L ≤ 32) (hw : wl ≤ 2) (hR : R ≤ 8) (hT : T ≤ 8) (hT1 : 1 ≤ T) (hov : ov < 2) (htn : tn < R) (hhc : hc + 1 ≤ R) (hJ : nb_J L wl R T word kept held G Wt Cw hc mem fl dy fd vl vy vd rl rh rc rt ta tk tv tr tg) (ht : t < 16) (ha : a < L * 4) (eta : ta t = nI a) (etg : tg t = -1) (hx : (x = -1 ∧ ∀ q, q < R → rl q ≠ nI (a / 4)) ∨ ∃ r, r < R ∧ x = nI r ∧ rl r = nI (a / 4) ∧ (rh r = 0 ∨ ¬ nI T ≤ rc r)) (hC1 : ∀ q, q < L → q ≠ a / 4 → Cw' q = Cw q) (hC2 : held (a / 4) ≠ 0 → Cw' (a / 4) = Cw (a / 4) + 1)
    (h : ∀ (ov' tn' : Nat) (mem' fl' dy' fd' tree' vl' vy' vd' rl' rh' rc' rt' tr' tg' : Nat → Int32), ov' < 2 → tn' < R → nb_J L wl R T (upd word a (nb_ap (tk t) (word a) (tv t))) kept held (upd G t (word a)) (upd Wt t (held (a / 4))) Cw' hc mem' fl' dy' fd' vl' vy' vd' rl' rh' rc' rt' ta tk tv tr' tg' → pS (nI L, nI wl, nI (2 ^ wl), nI R, nI T, nI ov', nI hc, nI tn', nI n, ac, an, mem', fl', dy', fd', tree', vl', vy', vd', rl', rh', rc', rt', ta, tk, tv, tr', tg', od)) : wpX_dispatch pS (nI L, nI wl, nI (2 ^ wl), nI R, nI T, nI ov, nI hc, nI tn, nI n, ac, an, mem, fl, dy, fd, tree, vl, vy, vd, rl, rh, rc, rt, ta, tk, tv, tr, tg, od) (nI t) (nI (a / 4)) x := by
  rcases hx with ⟨rfl, hn⟩ | ⟨r, hr, rfl, er, eh⟩
  · exact br_t nb_neg (nb_dp24 hL hw hR hT hT1 hov htn hhc hJ ht ha eta etg (Or.inl ⟨rfl, hn⟩) hC1 hC2 h)
  · have cr : (nI r).toNatClampNeg = r := nI_clamp (by omega)
    refine br_f (nI_pos (by omega)) ⟨pk_in r 8 (by omega), ?_⟩
    have hc' : ∃ c, c ≤ T ∧ rc r = nI c := by
      obtain ⟨B, hP, hS, hQ⟩ := hJ
      obtain ⟨c', w1, w2, w3, w4, w5, w6, w7⟩ := hQ.2.1 r (a / 4) hr (by omega) er
      exact ⟨c', w1, w2⟩
    obtain ⟨c, hcT, ec⟩ := hc'
    by_cases z : T ≤ c
    · have z2 : nI T ≤ rc r := by rw [ec]; exact nI_le z (by omega)
      exact br_t (by rw [cr]; exact z2) (nb_dp24 hL hw hR hT hT1 hov htn hhc hJ ht ha eta etg (Or.inr ⟨r, hr, rfl, er, eh.resolve_right (fun y => y z2)⟩) hC1 hC2 h)
    · exact br_f (by rw [cr, ec]; exact nI_ge (by omega) (by omega)) (nb_dpm hL hR hT hov htn hJ ht ha eta etg hr er ec (by omega) hC1 hC2 h)
end
section
variable {L wl R T ov hc tn n : Nat} {ac an : Int32} {mem fl dy fd tree vl vy vd rl rh rc rt ta tk tv tr tg od : Nat → Int32}
variable {pI : Int32 → SX → Prop}
variable {word kept held G Wt : Nat → Int32} {Cw Cw' : Nat → Nat}
theorem nb_rq85 {t a : Nat} {x kd vv : Int32} (hL : L ≤ 32) (hw : wl ≤ 2) (hR : R ≤ 8) (hT : T ≤ 8) (hT1 : 1 ≤ T) (hov : ov < 2) (htn : tn < R) (hhc : hc + 1 ≤ R) (hn : n < 16) (hJ : nb_J L wl R T word kept held G Wt Cw hc mem fl dy fd vl vy vd rl rh rc rt ta tk tv tr tg) (ht : t < 16) (ha : a < L * 4) (eta : ta t = -1) (hx : (x = -1 ∧ ∀ q, q < R → rl q ≠ nI (a / 4)) ∨ ∃ r, r < R ∧ x = nI r ∧ rl r = nI (a / 4) ∧ (rh r = 0 ∨ ¬ nI T ≤ rc r)) (hC1 : ∀ q, q < L → q ≠ a / 4 → Cw' q = Cw q) (hC2 : held (a / 4) ≠ 0 → Cw' (a / 4) = Cw (a / 4) + 1)
    (h : ∀ (ov' tn' : Nat) (mem' fl' dy' fd' tree' vl' vy' vd' rl' rh' rc' rt' tr' tg' : Nat → Int32), ov' < 2 → tn' < R → nb_J L wl R T (upd word a (nb_ap kd (word a) (vv &&& 65535))) kept held (upd (upd G t (tr t)) t (word a)) (upd (upd Wt t 0) t (held (a / 4))) Cw' hc mem' fl' dy' fd' vl' vy' vd' rl' rh' rc' rt' (upd ta t (nI a)) (upd tk t kd) (upd tv t (vv &&& 65535)) tr' tg' → pI 0 (nI L, nI wl, nI (2 ^ wl), nI R, nI T, nI ov', nI hc, nI tn', nI (n + 1), ac + 1, an, mem', fl', dy', fd', tree', vl', vy', vd', rl', rh', rc', rt', upd ta t (nI a), upd tk t kd, upd tv t (vv &&& 65535), tr', tg', upd od n (nI t))) : wX_request_85 pI (nI t) kd (nI a) vv (nI (a / 4)) x (nI L) (nI wl) (nI (2 ^ wl)) (nI R) (nI T) (nI ov) (nI hc) (nI tn) (nI n) ac an mem fl dy fd tree vl vy vd rl rh rc rt ta tk tv tr tg od := by
  have ct : (nI t).toNatClampNeg = t := nI_clamp (by omega)
  have cn : (nI n).toNatClampNeg = n := nI_clamp (by omega)
  have hJ2 : nb_J L wl R T word kept held (upd G t (tr t)) (upd Wt t 0) Cw hc mem fl dy fd vl vy vd rl rh rc rt (upd ta t (nI a)) (upd tk t kd) (upd tv t (vv &&& 65535)) tr tg := by
    obtain ⟨B, hP, hS, hQ⟩ := hJ
    exact ⟨B, hP, hS, nb_Qa hL hT hQ ht eta ha⟩
  have etg : tg t = -1 := by
    obtain ⟨B, hP, hS, hQ⟩ := hJ
    exact nb_Qg hL hT hQ ht eta
  refine And.intro (pk_in t 16 ht) (nm_r (by rw [ct]) ⟨pk_in t 16 ht, nm_r (by rw [ct]) ⟨pk_in t 16 ht, nm_r (by rw [ct]) ⟨pk_in n 16 hn, nm_r (by rw [cn]) (nm_r (nI_1 n) (nm_e ?_))⟩⟩⟩)
  refine nb_dp hL hw hR hT hT1 hov htn hhc hJ2 ht ha pk_us etg hx hC1 hC2 ?_
  intro ov' tn' mem' fl' dy' fd' tree' vl' vy' vd' rl' rh' rc' rt' tr' tg' hov' htn' hJ3
  rw [pk_us, pk_us] at hJ3
  exact h ov' tn' mem' fl' dy' fd' tree' vl' vy' vd' rl' rh' rc' rt' tr' tg' hov' htn' hJ3
end
end
section
/-- who waits: the flags after a release of line l has passed the first i of the list -/
def nb_rw (ql qw : Nat → Int32) (l i : Nat) : Nat → Int32 := fun j => if j < i ∧ ql j = nI l then 0 else qw j
theorem nb_rw0 (ql qw : Nat → Int32) (l : Nat) : nb_rw ql qw l 0 = qw := by
  funext j
  exact if_neg (by omega)
theorem nb_rws {ql qw : Nat → Int32} {l i : Nat} (h : ql i = nI l) : upd (nb_rw ql qw l i) i 0 = nb_rw ql qw l (i + 1) := by
  funext j
  simp only [upd, nb_rw]
  by_cases z : j = i
  · subst z
    rw [if_pos rfl, if_pos ⟨by omega, h⟩]
  · rw [if_neg z]
    by_cases y : j < i ∧ ql j = nI l
    · rw [if_pos y, if_pos ⟨by omega, y.2⟩]
    · rw [if_neg y, if_neg (fun x => y ⟨by omega, x.2⟩)]
theorem nb_rwn {ql qw : Nat → Int32} {l i : Nat} (h : ql i ≠ nI l) : nb_rw ql qw l i = nb_rw ql qw l (i + 1) := by
  funext j
  simp only [nb_rw]
  by_cases y : j < i ∧ ql j = nI l
  · rw [if_pos y, if_pos ⟨by omega, y.2⟩]
  · rw [if_neg y, if_neg (fun x => ?_)]
    by_cases z : j = i
    · subst z; exact h x.2
    · exact y ⟨by omega, x.2⟩
/-- the digest of the first i words -/
def nb_dg (g : Nat → Int32) : Nat → Int32
  | 0 => 0
  | i + 1 => nb_dg g i * 31 + g i
theorem nb_dgc {f g : Nat → Int32} : ∀ {m : Nat}, (∀ i, i < m → f i = g i) → nb_dg f m = nb_dg g m
  | 0, _ => rfl
  | m + 1, h => by
    simp only [nb_dg]
    rw [nb_dgc (m := m) (fun i hi => h i (by omega)), h m (by omega)]
/-- how many of the first n requests wait on line l -/
def nb_cw (ql qw : Nat → Int32) (n l : Nat) : Nat := nb_cn (fun i => decide (ql i = nI l ∧ qw i ≠ 0)) n
section
variable {L R T n : Nat} {ac an : Int32} {word kept held od ql qr qw : Nat → Int32}
variable {post : Int32 → Prop} {pS : SY → Prop} {pI : Int32 → SY → Prop}
theorem nb_yp1 {x : Int32} (hx : x < 0 ∨ nI 16 ≤ x) (h : post (-3)) : wpY_place post (nI L, nI R, nI T, nI n, ac, an, word, kept, held, od, ql, qr, qw) x := by
  rcases hx with hx | hx
  · exact br_t hx h
  · exact br_c (fun _ => h) (fun _ => br_f (Int32.not_lt.mpr hx) h)
theorem nb_yp0 {t : Nat} (hn : n ≤ 16) (ht : t < 16) (h1 : (∀ j, j < n → od j ≠ nI t) → post (-1)) (h2 : ∀ j, j < n → od j = nI t → post (nI j)) : wpY_place post (nI L, nI R, nI T, nI n, ac, an, word, kept, held, od, ql, qr, qw) (nI t) := by
  have key : ∀ d i, i + d = n → (∀ j, j < i → od j ≠ nI t) → wY_place_15 post (nI t) (nI L) (nI R) (nI T) (nI n) ac an word kept held od ql qr qw (d + 1) (nI i) := by
    intro d
    induction d with
    | zero =>
      intro i e hi
      exact pk_le n i (fun _ => h1 (fun j hj => hi j (by omega))) (fun z => absurd z (by omega))
    | succ d ih =>
      intro i e hi
      have cl : (nI i).toNatClampNeg = i := nI_clamp (by omega)
      refine pk_le n i (fun z => absurd z (by omega)) (fun _ => ⟨pk_in i 16 (by omega), ?_⟩)
      by_cases z : od i = nI t
      · exact br_t (by rw [cl]; exact z) (h2 i (by omega) z)
      · exact br_f (by rw [cl]; exact z) (nm_r (nI_1 i) (ih (i + 1) (by omega) (lt_s hi z)))
  exact br_f (nI_pos (by omega)) (br_t (nI_lt (b := 16) ht (by decide)) (Exists.intro (n + 1) (key n 0 (by omega) lt_0)))
theorem nb_yw1 {x : Int32} (hx : x < 0 ∨ nI L ≤ x) (h : post (-3)) : wpY_waitingOn post (nI L, nI R, nI T, nI n, ac, an, word, kept, held, od, ql, qr, qw) x := by
  rcases hx with hx | hx
  · exact br_t hx h
  · exact br_c (fun _ => h) (fun _ => br_f (Int32.not_lt.mpr hx) h)
theorem nb_yw0 {l : Nat} (hL : L ≤ 32) (hn : n ≤ 16) (hl : l < L) (h1 : held l = 0 → post (-1)) (h2 : held l ≠ 0 → post (nI (nb_cw ql qw n l))) : wpY_waitingOn post (nI L, nI R, nI T, nI n, ac, an, word, kept, held, od, ql, qr, qw) (nI l) := by
  have cl : (nI l).toNatClampNeg = l := nI_clamp (by omega)
  refine br_f (nI_pos (by omega)) (br_t (nI_lt hl (by omega)) ⟨pk_in l 32 (by omega), ?_⟩)
  by_cases z : held l = 0
  · exact br_t (by rw [cl]; exact z) (h1 z)
  · refine br_f (by rw [cl]; exact z) (Exists.intro (n + 1) ?_)
    have key : ∀ d i, i + d = n → wY_waitingOn_30 post (nI l) (nI L) (nI R) (nI T) (nI n) ac an word kept held od ql qr qw (d + 1) (nI (nb_cw ql qw i l)) (nI i) := by
      intro d
      induction d with
      | zero =>
        intro i e
        obtain rfl : i = n := by omega
        exact pk_le i i (fun _ => h2 z) (fun z => absurd z (by omega))
      | succ d ih =>
        intro i e
        have ci : (nI i).toNatClampNeg = i := nI_clamp (by omega)
        have k := ih (i + 1) (by omega)
        refine pk_le n i (fun z => absurd z (by omega)) (fun _ => ⟨pk_in i 16 (by omega), ?_⟩)
        by_cases y : ql i = nI l
        · refine br_t (by rw [ci]; exact y) ⟨pk_in i 16 (by omega), ?_⟩
          by_cases x : qw i = 0
          · have es : nb_cw ql qw (i + 1) l = nb_cw ql qw i l := by simp [nb_cw, nb_cn, x]
            rw [es] at k
            exact br_t (by rw [ci]; exact x) (nm_r (nI_1 i) k)
          · have es : nb_cw ql qw (i + 1) l = nb_cw ql qw i l + 1 := by simp [nb_cw, nb_cn, x, y]
            rw [es] at k
            exact br_f (by rw [ci]; exact x) (nm_r (nI_1 _) (nm_r (nI_1 i) k))
        · have es : nb_cw ql qw (i + 1) l = nb_cw ql qw i l := by simp [nb_cw, nb_cn, y]
          rw [es] at k
          exact br_f (by rw [ci]; exact y) (nm_r (nI_1 i) k)
    exact key n 0 (by omega)
theorem nb_y205 {t l : Nat} {x : Int32} (hn : n < 16) (hl : l < 32) (hh : held l = 0 ∨ held l = 1) (h : pI 0 (nI L, nI R, nI T, nI (n + 1), ac + 1, an, word, kept, held, upd od n (nI t), upd ql n (nI l), upd qr n x, upd qw n (held l))) : wY_request_205 pI (nI t) (nI l) x (nI L) (nI R) (nI T) (nI n) ac an word kept held od ql qr qw := by
  have cn : (nI n).toNatClampNeg = n := nI_clamp (by omega)
  have cl : (nI l).toNatClampNeg = l := nI_clamp (by omega)
  have i1 : vp_in (nI n) 16 := pk_in n 16 hn
  exact And.intro i1 (nm_r (by rw [cn]) ⟨i1, nm_r (by rw [cn]) ⟨i1, nm_r (by rw [cn]) ⟨pk_in l 32 hl, i1, nm_r (by rw [cn, cl, nb_nar hh]) (nm_r (nI_1 n) (nm_e h))⟩⟩⟩)
theorem nb_y90 {t a : Nat} {kd vv : Int32} (hn : n < 16) (ha : a < 128) (hh : held (a / 4) = 0 ∨ held (a / 4) = 1)
    (h : pI 0 (nI L, nI R, nI T, nI (n + 1), ac + 1, an, upd word a (nb_ap kd (word a) (vv &&& 65535)), kept, held, upd od n (nI t), upd ql n (nI (a / 4)), upd qr n (word a), upd qw n (held (a / 4)))) : wY_request_90 pI (nI t) kd (nI a) vv (nI (a / 4)) (nI L) (nI R) (nI T) (nI n) ac an word kept held od ql qr qw := by
  have ca : (nI a).toNatClampNeg = a := nI_clamp (by omega)
  have i1 : vp_in (nI a) 128 := pk_in a 128 ha
  refine And.intro i1 (nm_r (e' := word a) (by rw [ca]) (nm_e ?_))
  by_cases h1 : kd = 1
  · subst h1
    rw [nb_ap1] at h
    exact br_t rfl ⟨i1, nm_r (by rw [ca]) (br_f (by decide) (br_f (by decide) (br_f (by decide) (br_f (by decide) (nb_y205 hn (by omega) hh h)))))⟩
  · by_cases h2 : kd = 2
    · subst h2
      rw [nb_ap2] at h
      exact br_f h1 (br_t rfl ⟨i1, nm_r (by rw [ca]) (br_f (by decide) (br_f (by decide) (br_f (by decide) (nb_y205 hn (by omega) hh h))))⟩)
    · by_cases h3 : kd = 3
      · subst h3
        rw [nb_ap3] at h
        exact br_f h1 (br_f h2 (br_t rfl ⟨i1, nm_r (by rw [ca]) (br_f (by decide) (br_f (by decide) (nb_y205 hn (by omega) hh h)))⟩))
      · by_cases h4 : kd = 4
        · subst h4
          rw [nb_ap4] at h
          exact br_f h1 (br_f h2 (br_f h3 (br_t rfl ⟨i1, nm_r (by rw [ca]) (br_f (by decide) (nb_y205 hn (by omega) hh h))⟩)))
        · by_cases h5 : kd = 5
          · subst h5
            rw [nb_ap5] at h
            by_cases z : word a = 0
            · rw [if_pos z] at h
              exact br_f h1 (br_f h2 (br_f h3 (br_f h4 (br_t rfl (br_t z ⟨i1, nm_r (by rw [ca]) (nb_y205 hn (by omega) hh h)⟩)))))
            · rw [if_neg z, nb_us] at h
              exact br_f h1 (br_f h2 (br_f h3 (br_f h4 (br_t rfl (br_f z (nb_y205 hn (by omega) hh h))))))
          · rw [nb_ap0 _ _ h1 h2 h3 h4 h5, nb_us] at h
            exact br_f h1 (br_f h2 (br_f h3 (br_f h4 (br_f h5 (nb_y205 hn (by omega) hh h)))))
theorem nb_y34 {p m : Nat} {x : Int32} (hn : n ≤ 16) (em : n = m + 1) (hw : ∀ i, i < n → qw i = 0 ∨ qw i = 1) (h : pI x (nI L, nI R, nI T, nI m, ac, an + 1, word, kept, held, nb_sh od p m, nb_sh ql p m, nb_sh qr p m, nb_sh qw p m)) : ∀ d i, i + d = m → p ≤ i → wY_take_34 pI x (nI L) (nI R) (nI T) (nI n) ac an (d + 1) (nI i) word kept held (nb_sh od p i) (nb_sh ql p i) (nb_sh qr p i) (nb_sh qw p i) := by
  intro d
  induction d with
  | zero =>
    intro i ei hpi
    obtain rfl : i = m := by omega
    exact pk_le n (i + 1) (fun _ => nm_r (e' := nI i) (by rw [em]; exact nI_pred i) (nm_e h)) (fun z => absurd z (by omega)) rfl (nI_1 i)
  | succ d ih =>
    intro i ei hpi
    have c0 : (nI i).toNatClampNeg = i := nI_clamp (by omega)
    have c1 : (nI i + 1).toNatClampNeg = i + 1 := by rw [nI_1]; exact nI_clamp (by omega)
    have i0 : vp_in (nI i) 16 := pk_in i 16 (by omega)
    have i1 : vp_in (nI i + 1) 16 := pk_in (i + 1) 16 (by omega) (nI_1 i)
    have hb : nb_sh qw p i (i + 1) = 0 ∨ nb_sh qw p i (i + 1) = 1 := by
      unfold nb_sh
      rw [if_neg (by omega)]
      exact hw (i + 1) (by omega)
    exact pk_le n (i + 1) (fun z => absurd z (by omega)) (fun _ => ⟨i1, i0, nm_r (by rw [c0, c1, nb_shs od hpi]) ⟨i1, i0, nm_r (by rw [c0, c1, nb_shs ql hpi]) ⟨i1, i0, nm_r (by rw [c0, c1, nb_shs qr hpi]) ⟨i1, i0, nm_r (by rw [c0, c1, nb_nar hb, nb_shs qw hpi]) (nm_r (nI_1 i) (ih (i + 1) (by omega) (by omega)))⟩⟩⟩⟩) rfl (nI_1 i)
theorem nb_y34s {p m : Nat} {x : Int32} (hn : n ≤ 16) (em : n = m + 1) (hp : p < n) (hw : ∀ i, i < n → qw i = 0 ∨ qw i = 1) (h : pI x (nI L, nI R, nI T, nI m, ac, an + 1, word, kept, held, nb_sh od p m, nb_sh ql p m, nb_sh qr p m, nb_sh qw p m)) : ∃ n34, wY_take_34 pI x (nI L) (nI R) (nI T) (nI n) ac an n34 (nI p) word kept held od ql qr qw := by
  have k := nb_y34 hn em hw h (m - p) p (by omega) (Nat.le_refl _)
  rw [nb_sh0, nb_sh0, nb_sh0, nb_sh0] at k
  exact ⟨_, k⟩
theorem nb_yh79 {l : Nat} (hl : l < 32) (h : pI 0 (nI L, nI R, nI T, nI n, ac, an, word, nb_cp kept l word l 4, held, od, ql, qr, qw)) : ∀ d i, i + d = 4 → wY_hold_79 pI (nI l) (nI L) (nI R) (nI T) (nI n) ac an (d + 1) (nI i) word (nb_cp kept l word l i) held od ql qr qw := by
  intro d
  induction d with
  | zero =>
    intro i ei
    obtain rfl : i = 4 := by omega
    exact pk_le 4 4 (fun _ => h) (fun z => absurd z (by omega))
  | succ d ih =>
    intro i ei
    have c1 : (nI l * 4 + nI i).toNatClampNeg = l * 4 + i := by rw [nb_i4]; exact nI_clamp (by omega)
    have i1 : vp_in (nI l * 4 + nI i) 128 := pk_in (l * 4 + i) 128 (by omega) (nb_i4 l i)
    exact pk_le 4 i (fun z => absurd z (by omega)) (fun _ => ⟨i1, i1, nm_r (by rw [c1, nb_cps]) (nm_r (nI_1 i) (ih (i + 1) (by omega)))⟩)
theorem nb_yh79s {l : Nat} (hl : l < 32) (h : pI 0 (nI L, nI R, nI T, nI n, ac, an, word, nb_cp kept l word l 4, held, od, ql, qr, qw)) : ∃ n79, wY_hold_79 pI (nI l) (nI L) (nI R) (nI T) (nI n) ac an n79 0 word kept held od ql qr qw := by
  have k := nb_yh79 hl h 4 0 rfl
  rw [nb_cp0] at k
  exact ⟨_, k⟩
theorem nb_yh31 {l : Nat} (hL : L ≤ 32) (hR : R ≤ 8) (hR2 : 2 ≤ R) (hl : l < L) (h1 : R ≤ nb_cn (fun l => decide (held l ≠ 0)) L + 1 → pI (-6) (nI L, nI R, nI T, nI n, ac, an, word, kept, held, od, ql, qr, qw)) (h2 : nb_cn (fun l => decide (held l ≠ 0)) L + 1 < R → pI 0 (nI L, nI R, nI T, nI n, ac, an, word, nb_cp kept l word l 4, upd held l 1, od, ql, qr, qw)) : ∀ d i, i + d = L → wY_hold_31 pI (nI l) (nI L) (nI R) (nI T) (nI n) ac an word kept held od ql qr qw (d + 1) (nI (nb_cn (fun l => decide (held l ≠ 0)) i)) (nI i) := by
  have cl : (nI l).toNatClampNeg = l := nI_clamp (by omega)
  intro d
  induction d with
  | zero =>
    intro i ei
    obtain rfl : i = L := by omega
    have le := nb_cnle (fun l => decide (held l ≠ 0)) i
    refine pk_le i i (fun _ => ?_) (fun z => absurd z (by omega))
    exact pk_lt (nb_cn (fun l => decide (held l ≠ 0)) i) (R - 1) (fun z => ⟨pk_in l 32 (by omega), nm_r (by rw [cl]; rfl) (nb_yh79s (by omega) (h2 (by omega)))⟩) (fun z => h1 (by omega)) rfl (pk_sub (b := 1) (by omega))
  | succ d ih =>
    intro i ei
    have ci : (nI i).toNatClampNeg = i := nI_clamp (by omega)
    have k := ih (i + 1) (by omega)
    refine pk_le L i (fun z => absurd z (by omega)) (fun _ => ⟨pk_in i 32 (by omega), ?_⟩)
    by_cases z : held i = 0
    · have es : nb_cn (fun l => decide (held l ≠ 0)) (i + 1) = nb_cn (fun l => decide (held l ≠ 0)) i := by simp [nb_cn, z]
      rw [es] at k
      exact br_t (by rw [ci]; exact z) (nm_r (nI_1 i) k)
    · have es : nb_cn (fun l => decide (held l ≠ 0)) (i + 1) = nb_cn (fun l => decide (held l ≠ 0)) i + 1 := by simp [nb_cn, z]
      rw [es] at k
      exact br_f (by rw [ci]; exact z) (nm_r (nI_1 _) (nm_r (nI_1 i) k))
theorem nb_yr21 {l : Nat} {x : Int32} (hn : n ≤ 16) (h : pI x (nI L, nI R, nI T, nI n, ac, an, word, kept, held, od, ql, qr, nb_rw ql qw l n)) : ∀ d i, i + d = n → wY_release_21 pI (nI l) x (nI L) (nI R) (nI T) (nI n) ac an (d + 1) (nI i) word kept held od ql qr (nb_rw ql qw l i) := by
  intro d
  induction d with
  | zero =>
    intro i ei
    obtain rfl : i = n := by omega
    exact pk_le i i (fun _ => h) (fun z => absurd z (by omega))
  | succ d ih =>
    intro i ei
    have ci : (nI i).toNatClampNeg = i := nI_clamp (by omega)
    have k := ih (i + 1) (by omega)
    refine pk_le n i (fun z => absurd z (by omega)) (fun _ => ⟨pk_in i 16 (by omega), ?_⟩)
    by_cases z : ql i = nI l
    · exact br_t (by rw [ci]; exact z) ⟨pk_in i 16 (by omega), nm_r (by rw [ci]; exact nb_rws z) (nm_r (nI_1 i) k)⟩
    · rw [← nb_rwn z] at k
      exact br_f (by rw [ci]; exact z) (nm_r (nI_1 i) k)
theorem nb_yr21s {l : Nat} {x : Int32} (hn : n ≤ 16) (h : pI x (nI L, nI R, nI T, nI n, ac, an, word, kept, held, od, ql, qr, nb_rw ql qw l n)) : ∃ n21, wY_release_21 pI (nI l) x (nI L) (nI R) (nI T) (nI n) ac an n21 0 word kept held od ql qr qw := by
  have k := nb_yr21 hn h n 0 (by omega)
  rw [nb_rw0] at k
  exact ⟨_, k⟩
theorem nb_yf {g : Nat → Int32} (hL : L ≤ 32) (hg : ∀ a, a < L * 4 → (held (a / 4) = 0 → g a = word a) ∧ (held (a / 4) ≠ 0 → g a = kept a)) (h : post (nb_dg g (L * 4))) : wpY_flush post (nI L, nI R, nI T, nI n, ac, an, word, kept, held, od, ql, qr, qw) := by
  have key : ∀ d i, i + d = L * 4 → wY_flush_4 post (nI L) (nI R) (nI T) (nI n) ac an word kept held od ql qr qw (d + 1) (nb_dg g i) (nI i) := by
    intro d
    induction d with
    | zero =>
      intro i ei
      obtain rfl : i = L * 4 := by omega
      exact pk_le (L * 4) (L * 4) (fun _ => h) (fun z => absurd z (by omega)) (nb_m4 L)
    | succ d ih =>
      intro i ei
      have ci : (nI i).toNatClampNeg = i := nI_clamp (by omega)
      have c4 : (nI i / 4).toNatClampNeg = i / 4 := by rw [nb_d4 (by omega)]; exact nI_clamp (by omega)
      have k := ih (i + 1) (by omega)
      rw [nb_dg] at k
      refine pk_le (L * 4) i (fun z => absurd z (by omega)) (fun _ => ⟨nb_n0, pk_in (i / 4) 32 (by omega) (nb_d4 (by omega)), ?_⟩) (nb_m4 L)
      by_cases z : held (i / 4) = 0
      · rw [(hg i (by omega)).1 z] at k
        exact br_t (by rw [c4]; exact z) ⟨pk_in i 128 (by omega), nm_r (by rw [ci]) (nm_r (nI_1 i) k)⟩
      · rw [(hg i (by omega)).2 z] at k
        exact br_f (by rw [c4]; exact z) ⟨pk_in i 128 (by omega), nm_r (by rw [ci]) (nm_r (nI_1 i) k)⟩
  exact Exists.intro (L * 4 + 1) (key (L * 4) 0 (by omega))
theorem nb_yn {p : Nat} (hn : n ≤ 16) (hp : p < n) (h1 : ∀ j, j < p → qw j ≠ 0) (h2 : qw p = 0) (h : post (od p)) : wpY_next post (nI L, nI R, nI T, nI n, ac, an, word, kept, held, od, ql, qr, qw) := by
  have key : ∀ d i, i + d = p → wY_next_2 post (nI L) (nI R) (nI T) (nI n) ac an word kept held od ql qr qw (d + 1) (nI i) := by
    intro d
    induction d with
    | zero =>
      intro i ei
      obtain rfl : i = p := by omega
      have ci : (nI i).toNatClampNeg = i := nI_clamp (by omega)
      exact pk_le n i (fun z => absurd z (by omega)) (fun _ => ⟨pk_in i 16 (by omega), br_t (by rw [ci]; exact h2) ⟨pk_in i 16 (by omega), by rw [ci]; exact h⟩⟩)
    | succ d ih =>
      intro i ei
      have ci : (nI i).toNatClampNeg = i := nI_clamp (by omega)
      exact pk_le n i (fun z => absurd z (by omega)) (fun _ => ⟨pk_in i 16 (by omega), br_f (by rw [ci]; exact h1 i (by omega)) (nm_r (nI_1 i) (ih (i + 1) (by omega)))⟩)
  exact Exists.intro (p + 1) (key p 0 (by omega))
theorem nb_yn0 (hn : n ≤ 16) (h1 : ∀ j, j < n → qw j ≠ 0) (h : post (-1)) : wpY_next post (nI L, nI R, nI T, nI n, ac, an, word, kept, held, od, ql, qr, qw) := by
  have key : ∀ d i, i + d = n → wY_next_2 post (nI L) (nI R) (nI T) (nI n) ac an word kept held od ql qr qw (d + 1) (nI i) := by
    intro d
    induction d with
    | zero =>
      intro i ei
      exact pk_le n i (fun _ => h) (fun z => absurd z (by omega))
    | succ d ih =>
      intro i ei
      have ci : (nI i).toNatClampNeg = i := nI_clamp (by omega)
      exact pk_le n i (fun z => absurd z (by omega)) (fun _ => ⟨pk_in i 16 (by omega), br_f (by rw [ci]; exact h1 i (by omega)) (nm_r (nI_1 i) (ih (i + 1) (by omega)))⟩)
  exact Exists.intro (n + 1) (key n 0 (by omega))
end
end
section
section
variable {L wl R T ov hc tn n : Nat} {ac an : Int32} {mem fl dy fd tree vl vy vd rl rh rc rt ta tk tv tr tg od : Nat → Int32}
variable {post : Int32 → Prop} {pS : SX → Prop} {pI : Int32 → SX → Prop}
variable {word kept held G Wt B ql qr qw : Nat → Int32} {Cw : Nat → Nat}
theorem nb_Qn {t a : Nat} (hL : L ≤ 32) (hT : T ≤ 8) (h : nb_Q L R T word kept held G Wt Cw hc B rl rh rc rt ta tk tv tr tg) (ht : t < 16) (e : ta t = nI a) (ha : a < L * 4) (hn : ∀ q, q < R → rl q ≠ nI (a / 4)) : tg t = -1 := by
  by_cases z : tg t = -1
  · exact z
  · obtain ⟨q, m, c', i, b, v1, v2, v3, v4, v5, v6, v7, v8, v9, va, vb, vc, vd⟩ := nb_Qt hT hL h ht z
    obtain rfl := nb_inj (by omega) (by omega) (e.symm.trans va)
    exact absurd (by rw [vb]; exact v7) (hn q v1)
theorem nb_stt {t : Nat} (hL : L ≤ 32) (hR : R ≤ 8) (hT : T ≤ 8) (hQ : nb_Q L R T word kept held G Wt Cw hc B rl rh rc rt ta tk tv tr tg) (ht : t < 16) (h0 : ta t = -1 → post 0) (h1 : ta t ≠ -1 → Wt t = 0 → post 1) (h2 : ta t ≠ -1 → Wt t ≠ 0 → post 2) : wpX_state post (nI L, nI wl, nI (2 ^ wl), nI R, nI T, nI ov, nI hc, nI tn, nI n, ac, an, mem, fl, dy, fd, tree, vl, vy, vd, rl, rh, rc, rt, ta, tk, tv, tr, tg, od) (nI t) := by
  have ct : (nI t).toNatClampNeg = t := nI_clamp (by omega)
  unfold wpX_state
  refine nb_bt0 ht (br_t rfl ⟨pk_in t 16 ht, ?_⟩)
  rcases hQ.2.2.2.2.1 t ht with e | ⟨a, ha, e⟩
  · exact br_f (by rw [ct, e]; decide) (h0 e)
  · have ne : ta t ≠ -1 := by rw [e]; exact nb_n1 (by omega)
    refine br_t (by rw [ct, e]; exact nI_pos' (by omega)) ⟨pk_in t 16 ht, nm_r (e' := tg t) (by rw [ct]) ?_⟩
    by_cases z : tg t = -1
    · exact br_t (by rw [z]; exact nb_neg) (h1 ne (hQ.2.2.2.2.2.2.1 t ht ne z).2)
    · obtain ⟨q, m, c', i, b, v1, v2, v3, v4, v5, v6, v7, v8, v9, va, vb, vc, vd⟩ := nb_Qt hT hL hQ ht z
      have cq : (nI q).toNatClampNeg = q := nI_clamp (by omega)
      rw [v6]
      refine br_f (nI_pos (by omega)) ⟨pk_in q 8 (by omega), ?_⟩
      by_cases y : rh q = 0
      · exact br_t (by rw [cq]; exact y) (h1 ne (by rw [vd]; exact y))
      · exact br_f (by rw [cq]; exact y) (h2 ne (by rw [vd]; exact y))
theorem nb_xn {p : Nat} (hL : L ≤ 32) (hR : R ≤ 8) (hT : T ≤ 8) (hQ : nb_Q L R T word kept held G Wt Cw hc B rl rh rc rt ta tk tv tr tg) (hn : n ≤ 16) (hZ : ∀ i, i < n → ∃ t, t < 16 ∧ od i = nI t ∧ ta t ≠ -1 ∧ qw i = Wt t) (hp : p < n) (h1 : ∀ j, j < p → qw j ≠ 0) (h2 : qw p = 0) (h : post (od p)) : wpX_next post (nI L, nI wl, nI (2 ^ wl), nI R, nI T, nI ov, nI hc, nI tn, nI n, ac, an, mem, fl, dy, fd, tree, vl, vy, vd, rl, rh, rc, rt, ta, tk, tv, tr, tg, od) := by
  have key : ∀ d i, i + d = p → wX_next_2 post (nI L) (nI wl) (nI (2 ^ wl)) (nI R) (nI T) (nI ov) (nI hc) (nI tn) (nI n) ac an mem fl dy fd tree vl vy vd rl rh rc rt ta tk tv tr tg od (d + 1) (nI i) := by
    intro d
    induction d with
    | zero =>
      intro i ei
      obtain rfl : i = p := by omega
      have ci : (nI i).toNatClampNeg = i := nI_clamp (by omega)
      obtain ⟨t, ht, et, na, ew⟩ := hZ i hp
      refine pk_le n i (fun z => absurd z (by omega)) (fun _ => ⟨pk_in i 16 (by omega), ?_⟩)
      rw [ci, et]
      exact nb_stt hL hR hT hQ ht (fun z => absurd z na) (fun _ _ => br_t rfl ⟨pk_in i 16 (by omega), by rw [← et]; exact h⟩) (fun _ z => absurd (ew.symm.trans h2) z)
    | succ d ih =>
      intro i ei
      have ci : (nI i).toNatClampNeg = i := nI_clamp (by omega)
      obtain ⟨t, ht, et, na, ew⟩ := hZ i (by omega)
      refine pk_le n i (fun z => absurd z (by omega)) (fun _ => ⟨pk_in i 16 (by omega), ?_⟩)
      rw [ci, et]
      exact nb_stt hL hR hT hQ ht (fun z => absurd z na) (fun _ z => absurd (ew.trans z) (h1 i (by omega))) (fun _ _ => br_f (by decide) (nm_r (nI_1 i) (ih (i + 1) (by omega))))
  exact Exists.intro (p + 1) (key p 0 (by omega))
theorem nb_xn0 (hL : L ≤ 32) (hR : R ≤ 8) (hT : T ≤ 8) (hQ : nb_Q L R T word kept held G Wt Cw hc B rl rh rc rt ta tk tv tr tg) (hn : n ≤ 16) (hZ : ∀ i, i < n → ∃ t, t < 16 ∧ od i = nI t ∧ ta t ≠ -1 ∧ qw i = Wt t) (h1 : ∀ j, j < n → qw j ≠ 0) (h : post (-1)) : wpX_next post (nI L, nI wl, nI (2 ^ wl), nI R, nI T, nI ov, nI hc, nI tn, nI n, ac, an, mem, fl, dy, fd, tree, vl, vy, vd, rl, rh, rc, rt, ta, tk, tv, tr, tg, od) := by
  have key : ∀ d i, i + d = n → wX_next_2 post (nI L) (nI wl) (nI (2 ^ wl)) (nI R) (nI T) (nI ov) (nI hc) (nI tn) (nI n) ac an mem fl dy fd tree vl vy vd rl rh rc rt ta tk tv tr tg od (d + 1) (nI i) := by
    intro d
    induction d with
    | zero =>
      intro i ei
      exact pk_le n i (fun _ => h) (fun z => absurd z (by omega))
    | succ d ih =>
      intro i ei
      have ci : (nI i).toNatClampNeg = i := nI_clamp (by omega)
      obtain ⟨t, ht, et, na, ew⟩ := hZ i (by omega)
      refine pk_le n i (fun z => absurd z (by omega)) (fun _ => ⟨pk_in i 16 (by omega), ?_⟩)
      rw [ci, et]
      exact nb_stt hL hR hT hQ ht (fun z => absurd z na) (fun _ z => absurd (ew.trans z) (h1 i (by omega))) (fun _ _ => br_f (by decide) (nm_r (nI_1 i) (ih (i + 1) (by omega))))
  exact Exists.intro (n + 1) (key n 0 (by omega))
theorem nb_first (q : Nat → Int32) : ∀ n, (∀ j, j < n → q j ≠ 0) ∨ ∃ p, p < n ∧ q p = 0 ∧ ∀ j, j < p → q j ≠ 0
  | 0 => Or.inl (fun j hj => absurd hj (by omega))
  | n + 1 => by
    rcases nb_first q n with h | ⟨p, hp, e, h⟩
    · by_cases z : q n = 0
      · exact Or.inr ⟨n, by omega, z, h⟩
      · refine Or.inl (fun j hj => ?_)
        by_cases y : j = n
        · subst y; exact z
        · exact h j (by omega)
    · exact Or.inr ⟨p, by omega, e, h⟩
theorem nb_rj41 (hL : L ≤ 32) (hov : ov < 2) (hJ : nb_J L wl R T word kept held G Wt Cw hc mem fl dy fd vl vy vd rl rh rc rt ta tk tv tr tg) (h : ∀ (ov' : Nat) (mem' fl' dy' fd' tree' vl' vy' vd' rl' rc' tr' tg' : Nat → Int32), ov' < 2 → nb_J L wl R T word kept held G Wt Cw hc mem' fl' dy' fd' vl' vy' vd' rl' rh rc' rt ta tk tv tr' tg' → pS (nI L, nI wl, nI (2 ^ wl), nI R, nI T, nI ov', nI hc, nI tn, nI n, ac, an, mem', fl', dy', fd', tree', vl', vy', vd', rl', rh, rc', rt, ta, tk, tv, tr', tg', od)) : ∀ d i, i + d = 2 → ∀ x, wX_runJob_41 pS (nI L) (nI wl) (nI (2 ^ wl)) (nI R) (nI T) (nI ov) (nI hc) (nI tn) (nI n) ac an mem fl dy fd tree vl vy vd rl rh rc rt ta tk tv tr tg od (d + 1) x (nI i) := by
  intro d
  induction d with
  | zero =>
    intro i ei x
    exact pk_le 2 i (fun _ => h ov mem fl dy fd tree vl vy vd rl rc tr tg hov hJ) (fun z => absurd z (by omega))
  | succ d ih =>
    intro i ei x
    refine pk_le 2 i (fun z => absurd z (by omega)) (fun _ => ⟨pk_in i 2 (by omega), br_c (fun _ => nm_r (nI_1 i) (ih (i + 1) (by omega) x)) (fun _ => br_c (fun _ => ?_) (fun _ => nm_e (nm_r (nI_1 i) (ih (i + 1) (by omega) _))))⟩)
    obtain ⟨B, hP, hS, hQ⟩ := hJ
    exact nb_dr (by omega) (hP.2.1 i (by omega)) hL (fun m' hm => h ov m' fl dy fd tree _ _ vd rl rc tr tg hov ⟨B, nb_Pv hL hP, nb_Sd hL (by omega) hP hS hm, hQ⟩)
theorem nb_rj4 (hL : L ≤ 32) (hw : wl ≤ 2) (hR : R ≤ 8) (hT : T ≤ 8) (hov : ov < 2) (hJ : nb_J L wl R T word kept held G Wt Cw hc mem fl dy fd vl vy vd rl rh rc rt ta tk tv tr tg) (h : ∀ (ov' : Nat) (mem' fl' dy' fd' tree' vl' vy' vd' rl' rc' tr' tg' : Nat → Int32), ov' < 2 → nb_J L wl R T word kept held G Wt Cw hc mem' fl' dy' fd' vl' vy' vd' rl' rh rc' rt ta tk tv tr' tg' → pS (nI L, nI wl, nI (2 ^ wl), nI R, nI T, nI ov', nI hc, nI tn, nI n, ac, an, mem', fl', dy', fd', tree', vl', vy', vd', rl', rh, rc', rt, ta, tk, tv, tr', tg', od)) : ∀ d i, i + d = R → ∀ x, wX_runJob_4 pS (nI L) (nI wl) (nI (2 ^ wl)) (nI R) (nI T) (nI ov) (nI hc) (nI tn) (nI n) ac an mem fl dy fd tree vl vy vd rl rh rc rt ta tk tv tr tg od (d + 1) x (nI i) := by
  intro d
  induction d with
  | zero =>
    intro i ei x
    exact pk_le R i (fun _ => Exists.intro 3 (nb_rj41 hL hov hJ h 2 0 rfl x)) (fun z => absurd z (by omega))
  | succ d ih =>
    intro i ei x
    have hv : rl i = -1 ∨ ∃ l, l < L ∧ rl i = nI l := by
      obtain ⟨B, hP, hS, hQ⟩ := hJ
      exact hP.2.2.1 i (by omega)
    refine pk_le R i (fun z => absurd z (by omega)) (fun _ => nb_ow (by omega) hv hL (fun _ => br_t rfl (nm_r (nI_1 i) (ih (i + 1) (by omega) x))) (fun l hl e1 e2 => br_f (by decide) (br_c (fun _ => ?_) (fun _ => nm_e (nm_r (nI_1 i) (ih (i + 1) (by omega) _))))))
    exact nb_rf hL hw hR hT hov hJ (by omega) hl e1 e2 (fun ov' mem' fl' dy' fd' tree' vl' vy' vd' tr' tg' hov' hJ' _ _ => h ov' mem' fl' dy' fd' tree' vl' vy' vd' _ _ tr' tg' hov' hJ')
theorem nb_pu {x : Int32} (hL : L ≤ 32) (hw : wl ≤ 2) (hR : R ≤ 8) (hT : T ≤ 8) (hov : ov < 2) (hJ : nb_J L wl R T word kept held G Wt Cw hc mem fl dy fd vl vy vd rl rh rc rt ta tk tv tr tg) (h : ∀ (ov' : Nat) (mem' fl' dy' fd' tree' vl' vy' vd' rl' rc' tr' tg' : Nat → Int32), ov' < 2 → nb_J L wl R T word kept held G Wt Cw hc mem' fl' dy' fd' vl' vy' vd' rl' rh rc' rt ta tk tv tr' tg' → pS (nI L, nI wl, nI (2 ^ wl), nI R, nI T, nI ov', nI hc, nI tn, nI n, ac, an, mem', fl', dy', fd', tree', vl', vy', vd', rl', rh, rc', rt, ta, tk, tv, tr', tg', od)) : wpX_pulse pS (nI L, nI wl, nI (2 ^ wl), nI R, nI T, nI ov, nI hc, nI tn, nI n, ac, an, mem, fl, dy, fd, tree, vl, vy, vd, rl, rh, rc, rt, ta, tk, tv, tr, tg, od) x := by
  have k31 : ∀ d i, i + d = 2 → ∀ y, wX_pulse_31 pS x (nI L) (nI wl) (nI (2 ^ wl)) (nI R) (nI T) (nI ov) (nI hc) (nI tn) (nI n) ac an mem fl dy fd tree vl vy vd rl rh rc rt ta tk tv tr tg od (d + 1) y (nI i) := by
    intro d
    induction d with
    | zero =>
      intro i ei y
      refine pk_le 2 i (fun _ => br_c (fun _ => h ov mem fl dy fd tree vl vy vd rl rc tr tg hov hJ) (fun z => ⟨fun e => z (by rw [e]; exact Int32.le_refl _), ?_⟩)) (fun z => absurd z (by omega))
      exact Exists.intro (R + 1) (nb_rj4 hL hw hR hT hov hJ h R 0 (by omega) _)
    | succ d ih =>
      intro i ei y
      exact pk_le 2 i (fun z => absurd z (by omega)) (fun _ => ⟨pk_in i 2 (by omega), br_c (fun _ => nm_r (nI_1 i) (ih (i + 1) (by omega) y)) (fun _ => nm_e (nm_r (nI_1 i) (ih (i + 1) (by omega) _)))⟩)
  have k4 : ∀ d i, i + d = R → ∀ y, wX_pulse_4 pS x (nI L) (nI wl) (nI (2 ^ wl)) (nI R) (nI T) (nI ov) (nI hc) (nI tn) (nI n) ac an mem fl dy fd tree vl vy vd rl rh rc rt ta tk tv tr tg od (d + 1) y (nI i) := by
    intro d
    induction d with
    | zero =>
      intro i ei y
      exact pk_le R i (fun _ => Exists.intro 3 (k31 2 0 rfl y)) (fun z => absurd z (by omega))
    | succ d ih =>
      intro i ei y
      have hv : rl i = -1 ∨ ∃ l, l < L ∧ rl i = nI l := by
        obtain ⟨B, hP, hS, hQ⟩ := hJ
        exact hP.2.2.1 i (by omega)
      exact pk_le R i (fun z => absurd z (by omega)) (fun _ => nb_ow (by omega) hv hL (fun _ => br_t rfl (nm_r (nI_1 i) (ih (i + 1) (by omega) y))) (fun l hl e1 e2 => br_f (by decide) (nm_e (nm_r (nI_1 i) (ih (i + 1) (by omega) _)))))
  exact Exists.intro (R + 1) (k4 R 0 (by omega) 0)
theorem nb_xf70 (hL : L ≤ 32) (h : pI (nb_dg mem (L * 4)) (nI L, nI wl, nI (2 ^ wl), nI R, nI T, nI ov, nI hc, nI tn, nI n, ac, an, mem, fl, dy, fd, tree, vl, vy, vd, rl, rh, rc, rt, ta, tk, tv, tr, tg, od)) : ∀ d i, i + d = L * 4 → wX_flush_70 pI (nI L) (nI wl) (nI (2 ^ wl)) (nI R) (nI T) (nI ov) (nI hc) (nI tn) (nI n) ac an mem fl dy fd tree vl vy vd rl rh rc rt ta tk tv tr tg od (d + 1) (nb_dg mem i) (nI i) := by
  intro d
  induction d with
  | zero =>
    intro i ei
    obtain rfl : i = L * 4 := by omega
    exact pk_le (L * 4) (L * 4) (fun _ => h) (fun z => absurd z (by omega)) (nb_m4 L)
  | succ d ih =>
    intro i ei
    have ci : (nI i).toNatClampNeg = i := nI_clamp (by omega)
    have k := ih (i + 1) (by omega)
    rw [nb_dg] at k
    exact pk_le (L * 4) i (fun z => absurd z (by omega)) (fun _ => ⟨pk_in i 128 (by omega), nm_r (by rw [ci]) (nm_r (nI_1 i) k)⟩) (nb_m4 L)
end
section
variable {L wl R T ov hc tn n : Nat} {ac an : Int32} {fl fd tree vl vy vd rl rh rc rt ta tk tv tr tg od B : Nat → Int32} {pI : Int32 → SX → Prop}
theorem nb_xf49 (hL : L ≤ 32) (hP : nb_P L wl R fl vl rl) (h : ∀ mem' dy' : Nat → Int32, nb_S L B mem' fl dy' fd vl vy vd → (∀ f, f < 8 → dy' f = 0) → pI (nb_dg mem' (L * 4)) (nI L, nI wl, nI (2 ^ wl), nI R, nI T, nI ov, nI hc, nI tn, nI n, ac, an, mem', fl, dy', fd, tree, vl, vy, vd, rl, rh, rc, rt, ta, tk, tv, tr, tg, od)) : ∀ d i, i + d = 8 → ∀ mem dy : Nat → Int32, nb_S L B mem fl dy fd vl vy vd → (∀ f, f < i → dy f = 0) → wX_flush_49 pI (d + 1) (nI i) (nI L) (nI wl) (nI (2 ^ wl)) (nI R) (nI T) (nI ov) (nI hc) (nI tn) (nI n) ac an mem fl dy fd tree vl vy vd rl rh rc rt ta tk tv tr tg od := by
  intro d
  induction d with
  | zero =>
    intro i ei mem dy hS hd
    obtain rfl : i = 8 := by omega
    exact pk_le 8 8 (fun _ => Exists.intro (L * 4 + 1) (nb_xf70 hL (h mem dy hS hd) (L * 4) 0 (by omega))) (fun z => absurd z (by omega))
  | succ d ih =>
    intro i ei mem dy hS hd
    refine pk_le 8 i (fun z => absurd z (by omega)) (fun _ => ?_)
    have hv : fl i = -1 ∨ ∃ l, l < L ∧ fl i = nI l := by
      rcases hP.1 i (by omega) with e | ⟨l, hl, e, _, _⟩
      · exact Or.inl e
      · exact Or.inr ⟨l, hl, e⟩
    refine nb_cl (by omega) hv hL (fun m' hm => nm_r (nI_1 i) (ih (i + 1) (by omega) m' _ (nb_Sc hL (by omega) hP hS hm).1 (fun f hf => ?_)))
    by_cases z : f = i
    · subst z; exact pk_us
    · rw [pk_un z]; exact hd f (by omega)
end
section
variable {L wl R T ov hc tn n : Nat} {ac an : Int32} {fl dy fd tree vd rl rh rc rt ta tk tv tr tg od B : Nat → Int32} {pI : Int32 → SX → Prop}
theorem nb_xf31 (hL : L ≤ 32) (h : ∀ mem' dy' vl' vy' : Nat → Int32, nb_P L wl R fl vl' rl → nb_S L B mem' fl dy' fd vl' vy' vd → (∀ s, s < 2 → vl' s = -1) → (∀ f, f < 8 → dy' f = 0) → pI (nb_dg mem' (L * 4)) (nI L, nI wl, nI (2 ^ wl), nI R, nI T, nI ov, nI hc, nI tn, nI n, ac, an, mem', fl, dy', fd, tree, vl', vy', vd, rl, rh, rc, rt, ta, tk, tv, tr, tg, od)) : ∀ d i, i + d = 2 → ∀ mem vl vy : Nat → Int32, nb_P L wl R fl vl rl → nb_S L B mem fl dy fd vl vy vd → (∀ s, s < i → vl s = -1) → wX_flush_31 pI (d + 1) (nI i) (nI L) (nI wl) (nI (2 ^ wl)) (nI R) (nI T) (nI ov) (nI hc) (nI tn) (nI n) ac an mem fl dy fd tree vl vy vd rl rh rc rt ta tk tv tr tg od := by
  intro d
  induction d with
  | zero =>
    intro i ei mem vl vy hP hS hd
    obtain rfl : i = 2 := by omega
    exact pk_le 2 2 (fun _ => Exists.intro 9 (nb_xf49 hL hP (fun mem' dy' hS' hd' => h mem' dy' vl vy hP hS' hd hd') 8 0 rfl mem dy hS lt_0)) (fun z => absurd z (by omega))
  | succ d ih =>
    intro i ei mem vl vy hP hS hd
    refine pk_le 2 i (fun z => absurd z (by omega)) (fun _ => nb_dr (by omega) (hP.2.1 i (by omega)) hL (fun m' hm => nm_r (nI_1 i) (ih (i + 1) (by omega) m' _ _ (nb_Pv hL hP) (nb_Sd hL (by omega) hP hS hm) (fun s hs => ?_))))
    by_cases z : s = i
    · subst z; exact pk_us
    · rw [pk_un z]; exact hd s (by omega)
end
section
variable {L wl R T hc tn n : Nat} {ac an : Int32} {rh rt ta tk tv od word kept held G Wt : Nat → Int32} {Cw : Nat → Nat} {pI : Int32 → SX → Prop}
theorem nb_xf2 (hL : L ≤ 32) (hw : wl ≤ 2) (hR : R ≤ 8) (hT : T ≤ 8)
    (h : ∀ (ov' : Nat) (mem' fl' dy' fd' tree' vl' vy' vd' rl' rc' tr' tg' : Nat → Int32), ov' < 2 → nb_J L wl R T word kept held G Wt Cw hc mem' fl' dy' fd' vl' vy' vd' rl' rh rc' rt ta tk tv tr' tg' → (∀ a, a < L * 4 → (held (a / 4) = 0 → mem' a = word a) ∧ (held (a / 4) ≠ 0 → mem' a = kept a)) → pI (nb_dg mem' (L * 4)) (nI L, nI wl, nI (2 ^ wl), nI R, nI T, nI ov', nI hc, nI tn, nI n, ac, an, mem', fl', dy', fd', tree', vl', vy', vd', rl', rh, rc', rt, ta, tk, tv, tr', tg', od)) :
    ∀ d i, i + d = R → ∀ (ov : Nat) (mem fl dy fd tree vl vy vd rl rc tr tg : Nat → Int32), ov < 2 → nb_J L wl R T word kept held G Wt Cw hc mem fl dy fd vl vy vd rl rh rc rt ta tk tv tr tg → (∀ q, q < i → rl q = -1 ∨ rh q ≠ 0) → wX_flush_2 pI (d + 1) (nI i) (nI L) (nI wl) (nI (2 ^ wl)) (nI R) (nI T) (nI ov) (nI hc) (nI tn) (nI n) ac an mem fl dy fd tree vl vy vd rl rh rc rt ta tk tv tr tg od := by
  intro d
  induction d with
  | zero =>
    intro i ei ov mem fl dy fd tree vl vy vd rl rc tr tg hov hJ hd
    obtain rfl : i = R := by omega
    obtain ⟨B, hP, hS, hQ⟩ := hJ
    refine pk_le i i (fun _ => Exists.intro 3 (nb_xf31 hL (fun mem' dy' vl' vy' hP' hS' hV hD => ?_) 2 0 rfl mem vl vy hP hS lt_0)) (fun z => absurd z (by omega))
    refine h ov mem' fl dy' fd tree vl' vy' vd rl rc tr tg hov ⟨B, hP', hS', hQ⟩ (fun a ha => ?_)
    have hl : a / 4 < L := by omega
    have mB : mem' a = B a := by
      have key : mem' (a / 4 * 4 + a % 4) = B (a / 4 * 4 + a % 4) := by
        by_cases z : ∃ f, f < 8 ∧ fl f = nI (a / 4)
        · obtain ⟨f, hf, ef⟩ := z
          exact (hS'.1 f (a / 4) (a % 4) hf hl ef (by omega)).2 (hD f hf)
        · exact hS'.2.2.1 (a / 4) (a % 4) hl (fun f hf x => z ⟨f, hf, x⟩) (fun s hs x => nb_l1 hL hl (x.symm.trans (hV s hs))) (by omega)
      rw [nb_a4] at key
      exact key
    rw [mB]
    by_cases z : ∃ q, q < i ∧ rl q = nI (a / 4)
    · obtain ⟨q, hq, eq⟩ := z
      obtain ⟨c', w1, w2, w3, w4, w5, w6, w7⟩ := hQ.2.1 q (a / 4) hq hl eq
      have hq0 : rh q ≠ 0 := by
        rcases hd q hq with y | y
        · exact absurd (eq.symm.trans y) (nb_l1 hL hl)
        · exact y
      refine ⟨fun y => absurd (w6.symm.trans y) hq0, fun _ => ?_⟩
      have := (w7 hq0).2 (a % 4) (by omega)
      rw [nb_a4] at this
      exact this.symm
    · have hno : ∀ q, q < i → rl q ≠ nI (a / 4) := fun q hq x => z ⟨q, hq, x⟩
      exact ⟨fun _ => (nb_Qw hQ ha hno).symm, fun y => absurd (hQ.2.2.2.1 (a / 4) hl hno) y⟩
  | succ d ih =>
    intro i ei ov mem fl dy fd tree vl vy vd rl rc tr tg hov hJ hd
    have hv : rl i = -1 ∨ ∃ l, l < L ∧ rl i = nI l := by
      obtain ⟨B, hP, hS, hQ⟩ := hJ
      exact hP.2.2.1 i (by omega)
    refine pk_le R i (fun z => absurd z (by omega)) (fun _ => nb_ow (by omega) hv hL (fun y => br_t rfl (nm_r (nI_1 i) (ih (i + 1) (by omega) ov mem fl dy fd tree vl vy vd rl rc tr tg hov hJ (fun q hq => ?_)))) (fun l hl e1 e2 => br_f (by decide) ?_))
    · by_cases z : q = i
      · subst z; exact y
      · exact hd q (by omega)
    · refine nb_rf hL hw hR hT hov hJ (by omega) hl e1 e2 (fun ov' mem' fl' dy' fd' tree' vl' vy' vd' tr' tg' hov' hJ' _ _ => nm_r (nI_1 i) (ih (i + 1) (by omega) ov' mem' fl' dy' fd' tree' vl' vy' vd' _ _ tr' tg' hov' hJ' (fun q hq => ?_)))
      by_cases z : q = i
      · subst z; exact Or.inl pk_us
      · rw [pk_un z]; exact hd q (by omega)
end
end
section
/-- the list of live requests: X's order, the reference's list, and the tags' ghosts -/
def nb_Z (n : Nat) (ta od ql qr qw G Wt : Nat → Int32) : Prop :=
  n ≤ 16 ∧
  (∀ i, i < n → ∃ t a, t < 16 ∧ a < 128 ∧ od i = nI t ∧ ta t = nI a ∧ ql i = nI (a / 4) ∧ qr i = G t ∧ qw i = Wt t) ∧
  (∀ i j, i < n → j < n → od i = od j → i = j) ∧
  (∀ t, t < 16 → ta t ≠ -1 → ∃ i, i < n ∧ od i = nI t) ∧
  nb_cn (fun t => decide (ta t ≠ -1)) 16 = n
section
variable {n : Nat} {ta od ql qr qw G Wt : Nat → Int32}
theorem nb_Zn {t : Nat} (h : nb_Z n ta od ql qr qw G Wt) (ht : t < 16) (e : ta t = -1) : n < 16 := by
  have := nb_cnlt (p := fun t => decide (ta t ≠ -1)) (a := t) (by simp [e]) ht
  rw [h.2.2.2.2] at this
  exact this
theorem nb_Za {t a : Nat} {x y : Int32} {G' Wt' : Nat → Int32} (h : nb_Z n ta od ql qr qw G Wt) (ht : t < 16) (e : ta t = -1) (ha : a < 128) (hG : ∀ s, s ≠ t → G' s = G s) (hW : ∀ s, s ≠ t → Wt' s = Wt s) (hx : G' t = x) (hy : Wt' t = y) : nb_Z (n + 1) (upd ta t (nI a)) (upd od n (nI t)) (upd ql n (nI (a / 4))) (upd qr n x) (upd qw n y) G' Wt' := by
  have hn := nb_Zn h ht e
  obtain ⟨z1, z2, z3, z4, z5⟩ := h
  have ne : ∀ i, i < n → od i ≠ nI t := by
    intro i hi x
    obtain ⟨s, b, v1, v2, v3, v4, v5, v6, v7⟩ := z2 i hi
    obtain rfl := nb_inj (by omega) (by omega) (x.symm.trans v3)
    exact nb_n1 (by omega) (v4.symm.trans e)
  refine ⟨by omega, ?_, ?_, ?_, ?_⟩
  · intro i hi
    by_cases z : i = n
    · subst z
      exact ⟨t, a, ht, ha, pk_us, pk_us, pk_us, by rw [pk_us, hx], by rw [pk_us, hy]⟩
    · obtain ⟨s, b, v1, v2, v3, v4, v5, v6, v7⟩ := z2 i (by omega)
      have st : s ≠ t := fun w => ne i (by omega) (by rw [← w]; exact v3)
      exact ⟨s, b, v1, v2, by rw [pk_un z]; exact v3, by rw [pk_un st]; exact v4, by rw [pk_un z]; exact v5, by rw [pk_un z, hG s st]; exact v6, by rw [pk_un z, hW s st]; exact v7⟩
  · intro i j hi hj w
    by_cases zi : i = n
    · by_cases zj : j = n
      · omega
      · rw [zi, pk_us, pk_un zj] at w
        exact absurd w.symm (ne j (by omega))
    · by_cases zj : j = n
      · rw [zj, pk_us, pk_un zi] at w
        exact absurd w (ne i (by omega))
      · rw [pk_un zi, pk_un zj] at w
        exact z3 i j (by omega) (by omega) w
  · intro s hs w
    by_cases z : s = t
    · subst z
      exact ⟨n, by omega, pk_us⟩
    · rw [pk_un z] at w
      obtain ⟨i, hi, ei⟩ := z4 s hs w
      exact ⟨i, by omega, by rw [pk_un (by omega)]; exact ei⟩
  · rw [nb_cnup (p := fun t => decide (ta t ≠ -1)) (a := t) (by simp [e]) (by simp [pk_us, nb_n1 (a := a) (by omega)]) ht (fun k _ hk => by simp only [pk_un hk]), z5]
theorem nb_shv (f : Nat → Int32) {p m i : Nat} (hi : i < m) : nb_sh f p m i = f (if p ≤ i then i + 1 else i) := by
  unfold nb_sh
  by_cases z : p ≤ i
  · rw [if_pos ⟨z, hi⟩, if_pos z]
  · rw [if_neg (fun w => z w.1), if_neg z]
theorem nb_Zd {t p m : Nat} (h : nb_Z n ta od ql qr qw G Wt) (ht : t < 16) (hp : p < n) (e : od p = nI t) (em : n = m + 1) : nb_Z m (upd ta t (-1)) (nb_sh od p m) (nb_sh ql p m) (nb_sh qr p m) (nb_sh qw p m) G Wt := by
  obtain ⟨z1, z2, z3, z4, z5⟩ := h
  have ix : ∀ i, i < m → (if p ≤ i then i + 1 else i) < n ∧ (if p ≤ i then i + 1 else i) ≠ p := by
    intro i hi
    by_cases z : p ≤ i
    · rw [if_pos z]; omega
    · rw [if_neg z]; omega
  have eta : ta t ≠ -1 := by
    obtain ⟨s, b, v1, v2, v3, v4, v5, v6, v7⟩ := z2 p hp
    obtain rfl := nb_inj (by omega) (by omega) (e.symm.trans v3)
    rw [v4]; exact nb_n1 (by omega)
  refine ⟨by omega, ?_, ?_, ?_, ?_⟩
  · intro i hi
    rw [nb_shv od hi, nb_shv ql hi, nb_shv qr hi, nb_shv qw hi]
    obtain ⟨x1, x2⟩ := ix i hi
    obtain ⟨s, b, v1, v2, v3, v4, v5, v6, v7⟩ := z2 _ x1
    have st : s ≠ t := fun w => x2 (z3 _ p x1 hp (by rw [v3, e, w]))
    exact ⟨s, b, v1, v2, v3, by rw [pk_un st]; exact v4, v5, v6, v7⟩
  · intro i j hi hj w
    rw [nb_shv od hi, nb_shv od hj] at w
    have := z3 _ _ (ix i hi).1 (ix j hj).1 w
    by_cases zi : p ≤ i
    · by_cases zj : p ≤ j
      · rw [if_pos zi, if_pos zj] at this; omega
      · rw [if_pos zi, if_neg zj] at this; omega
    · by_cases zj : p ≤ j
      · rw [if_neg zi, if_pos zj] at this; omega
      · rw [if_neg zi, if_neg zj] at this; omega
  · intro s hs w
    have st : s ≠ t := fun y => w (by rw [y, pk_us])
    rw [pk_un st] at w
    obtain ⟨i, hi, ei⟩ := z4 s hs w
    have ip : i ≠ p := fun y => st (nb_inj (by omega) (by omega) (by rw [← ei, ← e, y]))
    by_cases z : p ≤ i
    · refine ⟨i - 1, by omega, ?_⟩
      rw [nb_shv od (by omega), if_pos (by omega), show i - 1 + 1 = i by omega]
      exact ei
    · refine ⟨i, by omega, ?_⟩
      rw [nb_shv od (by omega), if_neg z]
      exact ei
  · have := nb_cnup (p := fun s => decide (upd ta t (-1) s ≠ -1)) (q := fun t => decide (ta t ≠ -1)) (a := t) (n := 16) (by simp [pk_us]) (by simp [eta]) ht (fun k _ hk => by simp only [pk_un hk])
    omega
theorem nb_cwd {p m l : Nat} (em : n = m + 1) (hp : p < n) (e : qw p = 0) : nb_cw (nb_sh ql p m) (nb_sh qw p m) m l = nb_cw ql qw n l := by
  subst em
  unfold nb_cw
  rw [← nb_cnsh (p := fun i => decide (ql i = nI l ∧ qw i ≠ 0)) (a := p) (n := m) (by simp [e]) hp]
  refine nb_cnc (fun k hk => ?_)
  show decide (nb_sh ql p m k = nI l ∧ nb_sh qw p m k ≠ 0) = _
  rw [nb_shv ql hk, nb_shv qw hk]
  by_cases z : p ≤ k
  · simp only [if_pos z]
  · simp only [if_neg z]
theorem nb_cwa {l l' : Nat} {y : Int32} : nb_cw (upd ql n (nI l)) (upd qw n y) (n + 1) l' = nb_cw ql qw n l' + (if nI l = nI l' ∧ y ≠ 0 then 1 else 0) := by
  show nb_cn _ n + _ = _
  rw [nb_cnc (n := n) (q := fun i => decide (ql i = nI l' ∧ qw i ≠ 0)) (fun k hk => by
    show decide (upd ql n (nI l) k = nI l' ∧ upd qw n y k ≠ 0) = _
    rw [pk_un (by omega), pk_un (by omega)])]
  simp only [pk_us, decide_eq_true_eq]
  rfl
theorem nb_cwr {l l' : Nat} (hl : l < 32) (hl' : l' < 32) (ne : l' ≠ l) : nb_cw ql (nb_rw ql qw l n) n l' = nb_cw ql qw n l' := by
  refine nb_cnc (fun k hk => ?_)
  show decide (ql k = nI l' ∧ (if k < n ∧ ql k = nI l then 0 else qw k) ≠ 0) = decide (ql k = nI l' ∧ qw k ≠ 0)
  by_cases z : ql k = nI l'
  · rw [if_neg (fun y => ne (nb_inj (by omega) (by omega) (z.symm.trans y.2)))]
  · simp [z]
end
/-- all that is kept -/
def nb_R (L wl R T ov hc tn n : Nat) (mem fl dy fd vl vy vd rl rh rc rt ta tk tv tr tg od word kept held ql qr qw : Nat → Int32) : Prop :=
  (4 ≤ L ∧ L ≤ 32 ∧ wl ≤ 2 ∧ 2 ≤ R ∧ R ≤ 8 ∧ 1 ≤ T ∧ T ≤ 8 ∧ ov < 2 ∧ tn < R ∧ hc + 1 ≤ R) ∧
  nb_cn (fun l => decide (held l ≠ 0)) L = hc ∧
  ∃ G Wt : Nat → Int32, (nb_J L wl R T word kept held G Wt (nb_cw ql qw n) hc mem fl dy fd vl vy vd rl rh rc rt ta tk tv tr tg) ∧ (nb_Z n ta od ql qr qw G Wt)
/-- the relation: in the form of its own elimination -/
def i_Rel (_ : Nat) (u : SX) (v : SY) : Prop := ∀ P : SX → SY → Prop, (∀ (L wl R T ov hc tn n : Nat) (ac an : Int32) (mem fl dy fd tree vl vy vd rl rh rc rt ta tk tv tr tg od word kept held ql qr qw : Nat → Int32), nb_R L wl R T ov hc tn n mem fl dy fd vl vy vd rl rh rc rt ta tk tv tr tg od word kept held ql qr qw → P (nI L, nI wl, nI (2 ^ wl), nI R, nI T, nI ov, nI hc, nI tn, nI n, ac, an, mem, fl, dy, fd, tree, vl, vy, vd, rl, rh, rc, rt, ta, tk, tv, tr, tg, od) (nI L, nI R, nI T, nI n, ac, an, word, kept, held, od, ql, qr, qw)) → P u v
theorem i_up {k : Nat} {u : SX} {v : SY} (h : i_Rel k u v) : i_Rel (k + 5) u v := h
theorem nb_mk {k L wl R T ov hc tn n : Nat} {ac an : Int32} {mem fl dy fd tree vl vy vd rl rh rc rt ta tk tv tr tg od word kept held ql qr qw : Nat → Int32} (h : nb_R L wl R T ov hc tn n mem fl dy fd vl vy vd rl rh rc rt ta tk tv tr tg od word kept held ql qr qw) : i_Rel k (nI L, nI wl, nI (2 ^ wl), nI R, nI T, nI ov, nI hc, nI tn, nI n, ac, an, mem, fl, dy, fd, tree, vl, vy, vd, rl, rh, rc, rt, ta, tk, tv, tr, tg, od) (nI L, nI R, nI T, nI n, ac, an, word, kept, held, od, ql, qr, qw) := fun _ H => H _ _ _ _ _ _ _ _ _ _ _ _ _ _ tree _ _ _ _ _ _ _ _ _ _ _ _ _ _ _ _ _ _ _ h
end
section
theorem i_vc_accepted {k : Nat} {u : SX} {v : SY} (I : i_Rel k u v) (hk : k + 5 ≤ 2564) : wpX_accepted (fun r => wpY_accepted (fun r' => r' = r ∧ i_Rel (k + 5) u v) v) u := by
  refine I (fun u v => wpX_accepted (fun r => wpY_accepted (fun r' => r' = r ∧ i_Rel (k + 5) u v) v) u) ?_
  intro L wl R T ov hc tn n ac an mem fl dy fd tree vl vy vd rl rh rc rt ta tk tv tr tg od word kept held ql qr qw hRR
  exact And.intro rfl (nb_mk hRR)
theorem i_vc_answered {k : Nat} {u : SX} {v : SY} (I : i_Rel k u v) (hk : k + 5 ≤ 2564) : wpX_answered (fun r => wpY_answered (fun r' => r' = r ∧ i_Rel (k + 5) u v) v) u := by
  refine I (fun u v => wpX_answered (fun r => wpY_answered (fun r' => r' = r ∧ i_Rel (k + 5) u v) v) u) ?_
  intro L wl R T ov hc tn n ac an mem fl dy fd tree vl vy vd rl rh rc rt ta tk tv tr tg od word kept held ql qr qw hRR
  exact And.intro rfl (nb_mk hRR)
section
variable {n : Nat} {ta od ql qr qw G Wt : Nat → Int32}
theorem nb_Zf {t : Nat} (h : nb_Z n ta od ql qr qw G Wt) (e : ta t = -1) : ∀ j, j < n → od j ≠ nI t ∨ 16 ≤ t := by
  intro j hj
  by_cases ht : t < 16
  · refine Or.inl (fun x => ?_)
    obtain ⟨s, b, v1, v2, v3, v4, v5, v6, v7⟩ := h.2.1 j hj
    obtain rfl := nb_inj (by omega) (by omega) (x.symm.trans v3)
    exact nb_n1 (by omega) (v4.symm.trans e)
  · exact Or.inr (by omega)
/-- a free tag is not in the list; a live one is there once -/
theorem nb_Zt {t : Nat} (h : nb_Z n ta od ql qr qw G Wt) (ht : t < 16) : (ta t = -1 ∧ ∀ j, j < n → od j ≠ nI t) ∨ (∃ p a, p < n ∧ a < 128 ∧ od p = nI t ∧ ta t = nI a ∧ ql p = nI (a / 4) ∧ qr p = G t ∧ qw p = Wt t ∧ ∀ j, j < n → od j = nI t → j = p) := by
  by_cases e : ta t = -1
  · refine Or.inl ⟨e, fun j hj => ?_⟩
    rcases nb_Zf h e j hj with x | x
    · exact x
    · omega
  · obtain ⟨p, hp, ep⟩ := h.2.2.2.1 t ht e
    obtain ⟨s, b, v1, v2, v3, v4, v5, v6, v7⟩ := h.2.1 p hp
    obtain rfl := nb_inj (by omega) (by omega) (ep.symm.trans v3)
    exact Or.inr ⟨p, b, hp, v2, ep, v4, v5, v6, v7, fun j hj ej => h.2.2.1 j p hj hp (by rw [ej, ep])⟩
end
theorem i_vc_lineOf {k : Nat} {u : SX} {v : SY} (I : i_Rel k u v) (hk : k + 5 ≤ 2564) (v1 : Int32) : wpX_lineOf (fun r => wpY_lineOf (fun r' => r' = r ∧ i_Rel (k + 5) u v) v v1) u v1 := by
  refine I (fun u v => wpX_lineOf (fun r => wpY_lineOf (fun r' => r' = r ∧ i_Rel (k + 5) u v) v v1) u v1) ?_
  intro L wl R T ov hc tn n ac an mem fl dy fd tree vl vy vd rl rh rc rt ta tk tv tr tg od word kept held ql qr qw hRR
  have J : i_Rel (k + 5) (nI L, nI wl, nI (2 ^ wl), nI R, nI T, nI ov, nI hc, nI tn, nI n, ac, an, mem, fl, dy, fd, tree, vl, vy, vd, rl, rh, rc, rt, ta, tk, tv, tr, tg, od) (nI L, nI R, nI T, nI n, ac, an, word, kept, held, od, ql, qr, qw) := nb_mk hRR
  obtain ⟨⟨hL4, hL, hw, hR2, hR, hT1, hT, hov, htn, hhc⟩, hcn, G, Wt, ⟨B, hP, hS, hQ⟩, hZ⟩ := hRR
  unfold wpX_lineOf wpY_lineOf
  rcases pk_ix v1 (n := 16) (by decide) with hx | hx | ⟨t, ht, rfl⟩
  · exact nb_bt1 (Or.inl hx) (br_f (by decide) (nb_yp1 (Or.inl hx) (br_f (by decide) ⟨rfl, J⟩)))
  · exact nb_bt1 (Or.inr hx) (br_f (by decide) (nb_yp1 (Or.inr hx) (br_f (by decide) ⟨rfl, J⟩)))
  · have ct : (nI t).toNatClampNeg = t := nI_clamp (by omega)
    refine nb_bt0 ht (br_t rfl ⟨pk_in t 16 ht, ?_⟩)
    rcases nb_Zt hZ ht with ⟨e, hj⟩ | ⟨p, a, hp, ha, ep, ea, e1, e2, e3, hu⟩
    · exact br_f (by rw [ct, e]; decide) (nb_yp0 hZ.1 ht (fun _ => br_f (by decide) ⟨rfl, J⟩) (fun j hj' ej => absurd ej (hj j hj')))
    · refine br_t (by rw [ct, ea]; exact nI_pos' (by omega)) ⟨pk_in t 16 ht, nb_n0, ?_⟩
      rw [ct, ea, nb_d4 (by omega)]
      refine nb_yp0 hZ.1 ht (fun x => absurd ep (x p hp)) (fun j hj ej => br_t (nI_pos' (by have := hZ.1; omega)) ⟨pk_in j 16 (by have := hZ.1; omega), ?_⟩)
      rw [hu j hj ej, nI_clamp (by have := hZ.1; omega)]
      exact ⟨e1, J⟩
theorem i_vc_rank {k : Nat} {u : SX} {v : SY} (I : i_Rel k u v) (hk : k + 5 ≤ 2564) (v1 : Int32) : wpX_rank (fun r => wpY_rank (fun r' => r' = r ∧ i_Rel (k + 5) u v) v v1) u v1 := by
  refine I (fun u v => wpX_rank (fun r => wpY_rank (fun r' => r' = r ∧ i_Rel (k + 5) u v) v v1) u v1) ?_
  intro L wl R T ov hc tn n ac an mem fl dy fd tree vl vy vd rl rh rc rt ta tk tv tr tg od word kept held ql qr qw hRR
  have J : i_Rel (k + 5) (nI L, nI wl, nI (2 ^ wl), nI R, nI T, nI ov, nI hc, nI tn, nI n, ac, an, mem, fl, dy, fd, tree, vl, vy, vd, rl, rh, rc, rt, ta, tk, tv, tr, tg, od) (nI L, nI R, nI T, nI n, ac, an, word, kept, held, od, ql, qr, qw) := nb_mk hRR
  obtain ⟨⟨hL4, hL, hw, hR2, hR, hT1, hT, hov, htn, hhc⟩, hcn, G, Wt, ⟨B, hP, hS, hQ⟩, hZ⟩ := hRR
  unfold wpX_rank wpY_rank
  rcases pk_ix v1 (n := 16) (by decide) with hx | hx | ⟨t, ht, rfl⟩
  · exact nb_bt1 (Or.inl hx) (br_f (by decide) (nb_yp1 (Or.inl hx) ⟨rfl, J⟩))
  · exact nb_bt1 (Or.inr hx) (br_f (by decide) (nb_yp1 (Or.inr hx) ⟨rfl, J⟩))
  · have ct : (nI t).toNatClampNeg = t := nI_clamp (by omega)
    refine nb_bt0 ht (br_t rfl ⟨pk_in t 16 ht, ?_⟩)
    rcases nb_Zt hZ ht with ⟨e, hj⟩ | ⟨p, a, hp, ha, ep, ea, e1, e2, e3, hu⟩
    · exact br_f (by rw [ct, e]; decide) (nb_yp0 hZ.1 ht (fun _ => ⟨rfl, J⟩) (fun j hj' ej => absurd ej (hj j hj')))
    · refine br_t (by rw [ct, ea]; exact nI_pos' (by omega)) (nb_pl hZ.1 hp ep hu ?_)
      refine nb_yp0 hZ.1 ht (fun x => absurd ep (x p hp)) (fun j hj ej => ?_)
      rw [hu j hj ej]
      exact ⟨rfl, J⟩
theorem i_vc_state {k : Nat} {u : SX} {v : SY} (I : i_Rel k u v) (hk : k + 5 ≤ 2564) (v1 : Int32) : wpX_state (fun r => wpY_state (fun r' => r' = r ∧ i_Rel (k + 5) u v) v v1) u v1 := by
  refine I (fun u v => wpX_state (fun r => wpY_state (fun r' => r' = r ∧ i_Rel (k + 5) u v) v v1) u v1) ?_
  intro L wl R T ov hc tn n ac an mem fl dy fd tree vl vy vd rl rh rc rt ta tk tv tr tg od word kept held ql qr qw hRR
  have J : i_Rel (k + 5) (nI L, nI wl, nI (2 ^ wl), nI R, nI T, nI ov, nI hc, nI tn, nI n, ac, an, mem, fl, dy, fd, tree, vl, vy, vd, rl, rh, rc, rt, ta, tk, tv, tr, tg, od) (nI L, nI R, nI T, nI n, ac, an, word, kept, held, od, ql, qr, qw) := nb_mk hRR
  obtain ⟨⟨hL4, hL, hw, hR2, hR, hT1, hT, hov, htn, hhc⟩, hcn, G, Wt, ⟨B, hP, hS, hQ⟩, hZ⟩ := hRR
  rcases pk_ix v1 (n := 16) (by decide) with hx | hx | ⟨t, ht, rfl⟩
  · unfold wpX_state wpY_state
    exact nb_bt1 (Or.inl hx) (br_f (by decide) (nb_yp1 (Or.inl hx) (br_t rfl ⟨rfl, J⟩)))
  · unfold wpX_state wpY_state
    exact nb_bt1 (Or.inr hx) (br_f (by decide) (nb_yp1 (Or.inr hx) (br_t rfl ⟨rfl, J⟩)))
  · unfold wpY_state
    have h16 := hZ.1
    rcases nb_Zt hZ ht with ⟨e, hj⟩ | ⟨p, a, hp, ha, ep, ea, e1, e2, e3, hu⟩
    · exact nb_stt hL hR hT hQ ht (fun _ => nb_yp0 hZ.1 ht (fun _ => br_f (by decide) (br_t rfl ⟨rfl, J⟩)) (fun j hj' ej => absurd ej (hj j hj'))) (fun z => absurd e z) (fun z => absurd e z)
    · have ne : ta t ≠ -1 := by rw [ea]; exact nb_n1 (by omega)
      have n3 : ¬ nI p = -3 := fun x => by
        have z := nI_pos (n := p) (by omega)
        rw [x] at z
        exact z (by decide)
      have cp : (nI p).toNatClampNeg = p := nI_clamp (by omega)
      refine nb_stt hL hR hT hQ ht (fun z => absurd z ne) (fun _ z => nb_yp0 hZ.1 ht (fun x => absurd ep (x p hp)) (fun j hj ej => ?_)) (fun _ z => nb_yp0 hZ.1 ht (fun x => absurd ep (x p hp)) (fun j hj ej => ?_))
      · rw [hu j hj ej]
        exact br_f n3 (br_f (nb_n1 (by omega)) ⟨pk_in p 16 (by omega), br_t (by rw [cp, e3]; exact z) ⟨rfl, J⟩⟩)
      · rw [hu j hj ej]
        exact br_f n3 (br_f (nb_n1 (by omega)) ⟨pk_in p 16 (by omega), br_f (by rw [cp, e3]; exact z) ⟨rfl, J⟩⟩)
theorem i_vc_next {k : Nat} {u : SX} {v : SY} (I : i_Rel k u v) (hk : k + 5 ≤ 2564) : wpX_next (fun r => wpY_next (fun r' => r' = r ∧ i_Rel (k + 5) u v) v) u := by
  refine I (fun u v => wpX_next (fun r => wpY_next (fun r' => r' = r ∧ i_Rel (k + 5) u v) v) u) ?_
  intro L wl R T ov hc tn n ac an mem fl dy fd tree vl vy vd rl rh rc rt ta tk tv tr tg od word kept held ql qr qw hRR
  have J : i_Rel (k + 5) (nI L, nI wl, nI (2 ^ wl), nI R, nI T, nI ov, nI hc, nI tn, nI n, ac, an, mem, fl, dy, fd, tree, vl, vy, vd, rl, rh, rc, rt, ta, tk, tv, tr, tg, od) (nI L, nI R, nI T, nI n, ac, an, word, kept, held, od, ql, qr, qw) := nb_mk hRR
  obtain ⟨⟨hL4, hL, hw, hR2, hR, hT1, hT, hov, htn, hhc⟩, hcn, G, Wt, ⟨B, hP, hS, hQ⟩, hZ⟩ := hRR
  have hZ2 : ∀ i, i < n → ∃ t, t < 16 ∧ od i = nI t ∧ ta t ≠ -1 ∧ qw i = Wt t := by
    intro i hi
    obtain ⟨s, b, v1, v2, v3, v4, v5, v6, v7⟩ := hZ.2.1 i hi
    exact ⟨s, v1, v3, by rw [v4]; exact nb_n1 (by omega), v7⟩
  rcases nb_first qw n with h | ⟨p, hp, e, h⟩
  · exact nb_xn0 hL hR hT hQ hZ.1 hZ2 h (nb_yn0 hZ.1 h ⟨rfl, J⟩)
  · exact nb_xn hL hR hT hQ hZ.1 hZ2 hp h e (nb_yn hZ.1 hp h e ⟨rfl, J⟩)
theorem i_vc_foresee {k : Nat} {u : SX} {v : SY} (I : i_Rel k u v) (hk : k + 5 ≤ 2564) (v1 : Int32) : wpX_foresee (fun r => wpY_foresee (fun r' => r' = r ∧ i_Rel (k + 5) u v) v v1) u v1 := by
  refine I (fun u v => wpX_foresee (fun r => wpY_foresee (fun r' => r' = r ∧ i_Rel (k + 5) u v) v v1) u v1) ?_
  intro L wl R T ov hc tn n ac an mem fl dy fd tree vl vy vd rl rh rc rt ta tk tv tr tg od word kept held ql qr qw hRR
  have J : i_Rel (k + 5) (nI L, nI wl, nI (2 ^ wl), nI R, nI T, nI ov, nI hc, nI tn, nI n, ac, an, mem, fl, dy, fd, tree, vl, vy, vd, rl, rh, rc, rt, ta, tk, tv, tr, tg, od) (nI L, nI R, nI T, nI n, ac, an, word, kept, held, od, ql, qr, qw) := nb_mk hRR
  obtain ⟨⟨hL4, hL, hw, hR2, hR, hT1, hT, hov, htn, hhc⟩, hcn, G, Wt, ⟨B, hP, hS, hQ⟩, hZ⟩ := hRR
  have h16 := hZ.1
  unfold wpX_foresee wpY_foresee
  rcases pk_ix v1 (n := 16) (by decide) with hx | hx | ⟨t, ht, rfl⟩
  · exact nb_bt1 (Or.inl hx) (br_f (by decide) (nb_yp1 (Or.inl hx) (br_f (by decide) ⟨rfl, J⟩)))
  · exact nb_bt1 (Or.inr hx) (br_f (by decide) (nb_yp1 (Or.inr hx) (br_f (by decide) ⟨rfl, J⟩)))
  · have ct : (nI t).toNatClampNeg = t := nI_clamp (by omega)
    refine nb_bt0 ht (br_t rfl ⟨pk_in t 16 ht, ?_⟩)
    rcases nb_Zt hZ ht with ⟨e, hj⟩ | ⟨p, a, hp, ha, ep, ea, e1, e2, e3, hu⟩
    · exact br_f (by rw [ct, e]; decide) (nb_yp0 hZ.1 ht (fun _ => br_f (by decide) ⟨rfl, J⟩) (fun j hj' ej => absurd ej (hj j hj')))
    · have ne : ta t ≠ -1 := by rw [ea]; exact nb_n1 (by omega)
      have hY : ∀ x, x = G t → wpY_place (fun r_1 => ((0 ≤ r_1 → (vp_in r_1 16 ∧ (qr r_1.toNatClampNeg = x ∧ i_Rel (k + 5) (nI L, nI wl, nI (2 ^ wl), nI R, nI T, nI ov, nI hc, nI tn, nI n, ac, an, mem, fl, dy, fd, tree, vl, vy, vd, rl, rh, rc, rt, ta, tk, tv, tr, tg, od) (nI L, nI R, nI T, nI n, ac, an, word, kept, held, od, ql, qr, qw)))) ∧ (¬ 0 ≤ r_1 → (r_1 = x ∧ i_Rel (k + 5) (nI L, nI wl, nI (2 ^ wl), nI R, nI T, nI ov, nI hc, nI tn, nI n, ac, an, mem, fl, dy, fd, tree, vl, vy, vd, rl, rh, rc, rt, ta, tk, tv, tr, tg, od) (nI L, nI R, nI T, nI n, ac, an, word, kept, held, od, ql, qr, qw))))) (nI L, nI R, nI T, nI n, ac, an, word, kept, held, od, ql, qr, qw) (nI t) := by
        intro x hx
        refine nb_yp0 hZ.1 ht (fun x => absurd ep (x p hp)) (fun j hj ej => br_t (nI_pos' (by omega)) ⟨pk_in j 16 (by omega), ?_⟩)
        rw [hu j hj ej, nI_clamp (by omega), e2, hx]
        exact ⟨rfl, J⟩
      refine br_t (by rw [ct, ea]; exact nI_pos' (by omega)) ⟨pk_in t 16 ht, nm_r (e' := tg t) (by rw [ct]) ?_⟩
      by_cases z : tg t = -1
      · refine br_f (by rw [z]; decide) ⟨pk_in t 16 ht, ?_⟩
        rw [ct]
        exact hY _ (hQ.2.2.2.2.2.2.1 t ht ne z).1.symm
      · obtain ⟨q, m, c', i, b, v1, v2, v3, v4, v5, v6, v7, v8, v9, va, vb, vc, vd⟩ := nb_Qt hT hL hQ ht z
        obtain rfl := nb_inj (by omega) (by omega) (ea.symm.trans va)
        obtain ⟨c2, w1, w2, w3, w4, w5, w6, w7⟩ := hQ.2.1 q m v1 v2 v7
        obtain rfl := nb_inj (by omega) (by omega) (v8.symm.trans w2)
        have mB : mem a = B a := by
          have key := hS.2.2.1 m (a % 4) v2 (fun f hf x => hP.2.2.2.2.2.2.2.1 f q m hf v1 v2 x v7) (fun s hs x => hP.2.2.2.2.2.2.2.2 s q m hs v1 v2 x v7) (by omega)
          rw [← vb, nb_a4] at key
          exact key
        rw [v6]
        refine br_t (nI_pos' (by omega)) ⟨pk_in t 16 ht, ?_⟩
        rw [ct, ea]
        refine nb_re (c := c') (e := i) (by omega) ha (by omega) v8 (fun j hj => ?_) (by omega) (fun j hj x => ?_) (Or.inr v9) (hY _ (by rw [mB, vc]))
        · obtain ⟨s, b, x1, x2, x3, x4, x5, x6, x7, x8⟩ := w3 j hj
          exact ⟨s, x1, x3⟩
        · have := w4 j i (by omega) v4 (by rw [x, v9])
          omega
theorem i_vc_waitingOn {k : Nat} {u : SX} {v : SY} (I : i_Rel k u v) (hk : k + 5 ≤ 2564) (v1 : Int32) : wpX_waitingOn (fun r => wpY_waitingOn (fun r' => r' = r ∧ i_Rel (k + 5) u v) v v1) u v1 := by
  refine I (fun u v => wpX_waitingOn (fun r => wpY_waitingOn (fun r' => r' = r ∧ i_Rel (k + 5) u v) v v1) u v1) ?_
  intro L wl R T ov hc tn n ac an mem fl dy fd tree vl vy vd rl rh rc rt ta tk tv tr tg od word kept held ql qr qw hRR
  have J : i_Rel (k + 5) (nI L, nI wl, nI (2 ^ wl), nI R, nI T, nI ov, nI hc, nI tn, nI n, ac, an, mem, fl, dy, fd, tree, vl, vy, vd, rl, rh, rc, rt, ta, tk, tv, tr, tg, od) (nI L, nI R, nI T, nI n, ac, an, word, kept, held, od, ql, qr, qw) := nb_mk hRR
  obtain ⟨⟨hL4, hL, hw, hR2, hR, hT1, hT, hov, htn, hhc⟩, hcn, G, Wt, ⟨B, hP, hS, hQ⟩, hZ⟩ := hRR
  unfold wpX_waitingOn
  rcases pk_ix v1 (n := L) (by omega) with hx | hx | ⟨l, hl, rfl⟩
  · exact nb_bl1 (Or.inl hx) (br_f (by decide) (nb_yw1 (Or.inl hx) ⟨rfl, J⟩))
  · exact nb_bl1 (Or.inr hx) (br_f (by decide) (nb_yw1 (Or.inr hx) ⟨rfl, J⟩))
  · refine nb_bl0 hL hl (br_t rfl (nb_fr hR (fun hn => br_t nb_neg (nb_yw0 hL hZ.1 hl (fun _ => ⟨rfl, J⟩) (fun z => absurd (hQ.2.2.2.1 l hl hn) z))) (fun r hr er => br_f (nI_pos (by omega)) ⟨pk_in r 8 (by omega), ?_⟩)))
    obtain ⟨c', w1, w2, w3, w4, w5, w6, w7⟩ := hQ.2.1 r l hr hl er
    have cr : (nI r).toNatClampNeg = r := nI_clamp (by omega)
    by_cases z : rh r = 0
    · exact br_t (by rw [cr]; exact z) (nb_yw0 hL hZ.1 hl (fun _ => ⟨rfl, J⟩) (fun y => absurd (w6.trans z) y))
    · refine br_f (by rw [cr]; exact z) ⟨pk_in r 8 (by omega), nb_yw0 hL hZ.1 hl (fun y => absurd (w6.symm.trans y) z) (fun y => ?_)⟩
      rw [cr, w2, (w7 z).1]
      exact ⟨rfl, J⟩
theorem i_vc_backing {k : Nat} {u : SX} {v : SY} (I : i_Rel k u v) (hk : k + 5 ≤ 2564) (v1 : Int32) : wpX_backing (fun r => wpY_backing (fun r' => r' = r ∧ i_Rel (k + 5) u v) v v1) u v1 := by
  refine I (fun u v => wpX_backing (fun r => wpY_backing (fun r' => r' = r ∧ i_Rel (k + 5) u v) v v1) u v1) ?_
  intro L wl R T ov hc tn n ac an mem fl dy fd tree vl vy vd rl rh rc rt ta tk tv tr tg od word kept held ql qr qw hRR
  have J : i_Rel (k + 5) (nI L, nI wl, nI (2 ^ wl), nI R, nI T, nI ov, nI hc, nI tn, nI n, ac, an, mem, fl, dy, fd, tree, vl, vy, vd, rl, rh, rc, rt, ta, tk, tv, tr, tg, od) (nI L, nI R, nI T, nI n, ac, an, word, kept, held, od, ql, qr, qw) := nb_mk hRR
  obtain ⟨⟨hL4, hL, hw, hR2, hR, hT1, hT, hov, htn, hhc⟩, hcn, G, Wt, ⟨B, hP, hS, hQ⟩, hZ⟩ := hRR
  unfold wpX_backing
  have m4 := nb_m4 L
  rcases pk_ix v1 (n := L * 4) (by omega) with hx | hx | ⟨a, ha, rfl⟩
  · exact nb_ba1 (Or.inl hx) (br_f (by decide) (br_t hx ⟨rfl, J⟩))
  · exact nb_ba1 (Or.inr hx) (br_f (by decide) (br_c (fun _ => ⟨rfl, J⟩) (fun _ => br_f (by rw [m4]; exact Int32.not_lt.mpr hx) ⟨rfl, J⟩)))
  · have hl : a / 4 < L := by omega
    have ca : (nI a).toNatClampNeg = a := nI_clamp (by omega)
    have c4 : (nI a / 4).toNatClampNeg = a / 4 := by rw [nb_d4 (by omega)]; exact nI_clamp (by omega)
    have hY : ∀ x, (held (a / 4) = 0 → x = -1) → (held (a / 4) ≠ 0 → x = kept a) → wpY_backing (fun r' => r' = x ∧ i_Rel (k + 5) (nI L, nI wl, nI (2 ^ wl), nI R, nI T, nI ov, nI hc, nI tn, nI n, ac, an, mem, fl, dy, fd, tree, vl, vy, vd, rl, rh, rc, rt, ta, tk, tv, tr, tg, od) (nI L, nI R, nI T, nI n, ac, an, word, kept, held, od, ql, qr, qw)) (nI L, nI R, nI T, nI n, ac, an, word, kept, held, od, ql, qr, qw) (nI a) := by
      intro x h1 h2
      refine br_f (nI_pos (by omega)) (br_t (by rw [m4]; exact nI_lt ha (by omega)) ⟨nb_n0, pk_in (a / 4) 32 (by omega) (nb_d4 (by omega)), ?_⟩)
      by_cases z : held (a / 4) = 0
      · exact br_t (by rw [c4]; exact z) ⟨(h1 z).symm, J⟩
      · exact br_f (by rw [c4]; exact z) ⟨pk_in a 128 (by omega), by rw [ca]; exact (h2 z).symm, J⟩
    refine nb_ba0 hL ha (br_t rfl ⟨nb_n0, ?_⟩)
    rw [nb_d4 (by omega)]
    refine nb_fr hR (fun hn => br_t nb_neg (hY _ (fun _ => rfl) (fun y => absurd (hQ.2.2.2.1 (a / 4) hl hn) y))) (fun r hr er => br_f (nI_pos (by omega)) ⟨pk_in r 8 (by omega), ?_⟩)
    obtain ⟨c', w1, w2, w3, w4, w5, w6, w7⟩ := hQ.2.1 r (a / 4) hr hl er
    have cr : (nI r).toNatClampNeg = r := nI_clamp (by omega)
    by_cases z : rh r = 0
    · exact br_t (by rw [cr]; exact z) (hY _ (fun _ => rfl) (fun y => absurd (w6.trans z) y))
    · refine br_f (by rw [cr]; exact z) ⟨pk_in a 128 (by omega), ?_⟩
      rw [ca]
      refine hY _ (fun y => absurd (w6.symm.trans y) z) (fun _ => ?_)
      have mB : mem (a / 4 * 4 + a % 4) = B (a / 4 * 4 + a % 4) := hS.2.2.1 (a / 4) (a % 4) hl (fun f hf x => hP.2.2.2.2.2.2.2.1 f r (a / 4) hf hr hl x er) (fun s hs x => hP.2.2.2.2.2.2.2.2 s r (a / 4) hs hr hl x er) (by omega)
      have kB := (w7 z).2 (a % 4) (by omega)
      rw [nb_a4] at mB kB
      rw [mB, kB]
theorem i_vc_probe {k : Nat} {u : SX} {v : SY} (I : i_Rel k u v) (hk : k + 5 ≤ 2564) (v1 : Int32) : wpX_probe (fun r => wpY_probe (fun r' => r' = r ∧ i_Rel (k + 5) u v) v v1) u v1 := by
  refine I (fun u v => wpX_probe (fun r => wpY_probe (fun r' => r' = r ∧ i_Rel (k + 5) u v) v v1) u v1) ?_
  intro L wl R T ov hc tn n ac an mem fl dy fd tree vl vy vd rl rh rc rt ta tk tv tr tg od word kept held ql qr qw hRR
  have J : i_Rel (k + 5) (nI L, nI wl, nI (2 ^ wl), nI R, nI T, nI ov, nI hc, nI tn, nI n, ac, an, mem, fl, dy, fd, tree, vl, vy, vd, rl, rh, rc, rt, ta, tk, tv, tr, tg, od) (nI L, nI R, nI T, nI n, ac, an, word, kept, held, od, ql, qr, qw) := nb_mk hRR
  obtain ⟨⟨hL4, hL, hw, hR2, hR, hT1, hT, hov, htn, hhc⟩, hcn, G, Wt, ⟨B, hP, hS, hQ⟩, hZ⟩ := hRR
  have w4 := nb_w4 hw
  unfold wpX_probe
  have m4 := nb_m4 L
  rcases pk_ix v1 (n := L * 4) (by omega) with hx | hx | ⟨a, ha, rfl⟩
  · exact nb_ba1 (Or.inl hx) (br_f (by decide) (br_t hx ⟨rfl, J⟩))
  · exact nb_ba1 (Or.inr hx) (br_f (by decide) (br_c (fun _ => ⟨rfl, J⟩) (fun _ => br_f (by rw [m4]; exact Int32.not_lt.mpr hx) ⟨rfl, J⟩)))
  · have hl : a / 4 < L := by omega
    have ca : (nI a).toNatClampNeg = a := nI_clamp (by omega)
    have hY : ∀ x, x = word a → wpY_probe (fun r' => r' = x ∧ i_Rel (k + 5) (nI L, nI wl, nI (2 ^ wl), nI R, nI T, nI ov, nI hc, nI tn, nI n, ac, an, mem, fl, dy, fd, tree, vl, vy, vd, rl, rh, rc, rt, ta, tk, tv, tr, tg, od) (nI L, nI R, nI T, nI n, ac, an, word, kept, held, od, ql, qr, qw)) (nI L, nI R, nI T, nI n, ac, an, word, kept, held, od, ql, qr, qw) (nI a) := by
      intro x hx
      refine br_f (nI_pos (by omega)) (br_t (by rw [m4]; exact nI_lt ha (by omega)) ⟨pk_in a 128 (by omega), ?_⟩)
      rw [ca, hx]
      exact ⟨rfl, J⟩
    refine nb_ba0 hL ha (br_t rfl ⟨nb_n0, nm_r (e' := nI (a / 4)) (nb_d4 (by omega)) ?_⟩)
    refine nb_fr hR (fun hn => br_t nb_neg ?_) (fun r hr er => br_f (nI_pos (by omega)) ?_)
    · have wB := nb_Qw hQ ha hn
      refine nb_ff (by omega) hw (fun hf => br_t nb_neg ?_) (fun w hww ew => br_f (nI_pos (by omega)) ⟨nb_n0, ?_⟩)
      · refine nb_fv (fun hv => br_t nb_neg ⟨pk_in a 128 (by omega), ?_⟩) (fun s hs es => br_f (nI_pos (by omega)) ⟨nb_n0, ?_⟩)
        · rw [ca]
          refine hY _ ?_
          have key := hS.2.2.1 (a / 4) (a % 4) hl (fun f hf' x => by
            rcases hP.1 f hf' with y | ⟨m, hm, em, y1, y2⟩
            · exact nb_l1 hL hl (x.symm.trans y)
            · obtain e9 := nb_li hL hm hl (em.symm.trans x)
              refine hf (f % 4) y2 ?_
              rw [← e9, ← y1, show f / 4 * 4 + f % 4 = f by omega]
              exact em) hv (by omega)
          rw [nb_a4] at key
          rw [key, wB]
        · rw [nb_r4 (by omega), nb_i4]
          refine ⟨pk_in (s * 4 + a % 4) 8 (by omega), ?_⟩
          rw [nI_clamp (by omega)]
          refine hY _ ?_
          rw [(hS.2.1 s (a / 4) (a % 4) hs hl es (by omega)).1, nb_a4, wB]
      · rw [nb_r4 (by omega), nb_i4]
        refine ⟨pk_in ((a / 4 % 2 * 4 + w) * 4 + a % 4) 32 (by omega), ?_⟩
        rw [nI_clamp (by omega)]
        refine hY _ ?_
        rw [(hS.1 _ (a / 4) (a % 4) (by omega) hl ew (by omega)).1, nb_a4, wB]
    · obtain ⟨c', w1, w2, w3, w4, w5, w6, w7⟩ := hQ.2.1 r (a / 4) hr hl er
      have mB : mem (a / 4 * 4 + a % 4) = B (a / 4 * 4 + a % 4) := hS.2.2.1 (a / 4) (a % 4) hl (fun f hf x => hP.2.2.2.2.2.2.2.1 f r (a / 4) hf hr hl x er) (fun s hs x => hP.2.2.2.2.2.2.2.2 s r (a / 4) hs hr hl x er) (by omega)
      have wB := w5 (a % 4) (by omega)
      rw [nb_a4] at mB wB
      have ht : ∀ i, i < c' → ∃ t, t < 16 ∧ rt (r * 8 + i) = nI t := by
        intro j hj
        obtain ⟨s, b, x1, x2, x3, x4, x5, x6, x7, x8⟩ := w3 j hj
        exact ⟨s, x1, x3⟩
      refine nb_re (c := c') (e := c') (by omega) (by omega) (by omega) w2 ht (Nat.le_refl _) (fun j hj x => ?_) (Or.inl rfl) (hY _ (by rw [mB, wB]))
      obtain ⟨t, x1, x2⟩ := ht j hj
      exact nb_n1 (by omega) (x2.symm.trans x)
end
section
theorem i_vc_pulse {k : Nat} {u : SX} {v : SY} (I : i_Rel k u v) (hk : k + 5 ≤ 2564) (v1 : Int32) : wpX_pulse (fun u' => wpY_pulse (fun v' => i_Rel (k + 5) u' v') v v1) u v1 := by
  refine I (fun u v => wpX_pulse (fun u' => wpY_pulse (fun v' => i_Rel (k + 5) u' v') v v1) u v1) ?_
  intro L wl R T ov hc tn n ac an mem fl dy fd tree vl vy vd rl rh rc rt ta tk tv tr tg od word kept held ql qr qw hRR
  obtain ⟨⟨hL4, hL, hw, hR2, hR, hT1, hT, hov, htn, hhc⟩, hcn, G, Wt, hJ, hZ⟩ := hRR
  exact nb_pu hL hw hR hT hov hJ (fun ov' mem' fl' dy' fd' tree' vl' vy' vd' rl' rc' tr' tg' hov' hJ' => nb_mk (k := k + 5) ⟨⟨hL4, hL, hw, hR2, hR, hT1, hT, hov', htn, hhc⟩, hcn, G, Wt, hJ', hZ⟩)
theorem i_vc_flush {k : Nat} {u : SX} {v : SY} (I : i_Rel k u v) (hk : k + 5 ≤ 2564) : wpX_flush (fun r u' => wpY_flush (fun r' => r' = r ∧ i_Rel (k + 5) u' v) v) u := by
  refine I (fun u v => wpX_flush (fun r u' => wpY_flush (fun r' => r' = r ∧ i_Rel (k + 5) u' v) v) u) ?_
  intro L wl R T ov hc tn n ac an mem fl dy fd tree vl vy vd rl rh rc rt ta tk tv tr tg od word kept held ql qr qw hRR
  obtain ⟨⟨hL4, hL, hw, hR2, hR, hT1, hT, hov, htn, hhc⟩, hcn, G, Wt, hJ, hZ⟩ := hRR
  refine Exists.intro (R + 1) (nb_xf2 hL hw hR hT (fun ov' mem' fl' dy' fd' tree' vl' vy' vd' rl' rc' tr' tg' hov' hJ' hm => ?_) R 0 (by omega) ov mem fl dy fd tree vl vy vd rl rc tr tg hov hJ lt_0)
  exact nb_yf hL hm ⟨rfl, nb_mk (k := k + 5) ⟨⟨hL4, hL, hw, hR2, hR, hT1, hT, hov', htn, hhc⟩, hcn, G, Wt, hJ', hZ⟩⟩
section
variable {L wl R T ov hc tn n : Nat} {ac an : Int32} {mem fl dy fd tree vl vy vd rl rh rc rt ta tk tv tr tg od : Nat → Int32}
variable {post : Int32 → Prop} {pS : SX → Prop} {pI : Int32 → SX → Prop}
variable {word kept held G Wt B ql qr qw : Nat → Int32} {Cw : Nat → Nat}
theorem nb_t50 {t p m : Nat} (ht : t < 16) (hn : n ≤ 16) (em : n = m + 1) (hp : p < n) (e : od p = nI t) (hu : ∀ i, i < n → od i = nI t → i = p) (h : pI (tr t) (nI L, nI wl, nI (2 ^ wl), nI R, nI T, nI ov, nI hc, nI tn, nI m, ac, an + 1, mem, fl, dy, fd, tree, vl, vy, vd, rl, rh, rc, rt, upd ta t (-1), tk, tv, tr, tg, nb_sh od p m)) : wX_take_50 pI (nI t) (nI L) (nI wl) (nI (2 ^ wl)) (nI R) (nI T) (nI ov) (nI hc) (nI tn) (nI n) ac an mem fl dy fd tree vl vy vd rl rh rc rt ta tk tv tr tg od := by
  have ct : (nI t).toNatClampNeg = t := nI_clamp (by omega)
  unfold wX_take_50
  refine nb_fg ht hn em hp e hu (nm_e ⟨pk_in t 16 ht, ?_⟩)
  rw [ct]
  exact h
theorem nb_Cw0 {l : Nat} (hL : L ≤ 32) (hT : T ≤ 8) (hQ : nb_Q L R T word kept held G Wt Cw hc B rl rh rc rt ta tk tv tr tg) (hZ : nb_Z n ta od ql qr qw G Wt) (hl : l < L) (e : held l = 0) : nb_cw ql qw n l = 0 := by
  refine nb_cn0 (fun i hi => ?_)
  rw [decide_eq_false_iff_not]
  rintro ⟨h1, h2⟩
  obtain ⟨t, a, v1, v2, v3, v4, v5, v6, v7⟩ := hZ.2.1 i hi
  have al : a / 4 = l := nb_inj (by omega) (by omega) (v5.symm.trans h1)
  have ne : ta t ≠ -1 := by rw [v4]; exact nb_n1 (by omega)
  by_cases z : tg t = -1
  · exact h2 (by rw [v7]; exact (hQ.2.2.2.2.2.2.1 t v1 ne z).2)
  · obtain ⟨q, m, c', i', b, x1, x2, x3, x4, x5, x6, x7, x8, x9, xa, xb, xc, xd⟩ := nb_Qt hT hL hQ v1 z
    obtain rfl := nb_inj (by omega) (by omega) (v4.symm.trans xa)
    obtain ⟨c2, w1, w2, w3, w4, w5, w6, w7⟩ := hQ.2.1 q m x1 x2 x7
    refine h2 ?_
    rw [v7, xd, ← w6, ← xb, al]
    exact e
end
theorem i_vc_take {k : Nat} {u : SX} {v : SY} (I : i_Rel k u v) (hk : k + 5 ≤ 2564) (v1 : Int32) : wpX_take (fun r u' => wpY_take (fun r' v' => r' = r ∧ i_Rel (k + 5) u' v') v v1) u v1 := by
  refine I (fun u v => wpX_take (fun r u' => wpY_take (fun r' v' => r' = r ∧ i_Rel (k + 5) u' v') v v1) u v1) ?_
  intro L wl R T ov hc tn n ac an mem fl dy fd tree vl vy vd rl rh rc rt ta tk tv tr tg od word kept held ql qr qw hRR
  have J : i_Rel (k + 5) (nI L, nI wl, nI (2 ^ wl), nI R, nI T, nI ov, nI hc, nI tn, nI n, ac, an, mem, fl, dy, fd, tree, vl, vy, vd, rl, rh, rc, rt, ta, tk, tv, tr, tg, od) (nI L, nI R, nI T, nI n, ac, an, word, kept, held, od, ql, qr, qw) := nb_mk hRR
  obtain ⟨⟨hL4, hL, hw, hR2, hR, hT1, hT, hov, htn, hhc⟩, hcn, G, Wt, hJ, hZ⟩ := hRR
  have h16 := hZ.1
  unfold wpX_take
  rcases pk_ix v1 (n := 16) (by decide) with hx | hx | ⟨t, ht, rfl⟩
  · unfold wpY_take
    exact nb_bt1 (Or.inl hx) (br_f (by decide) (nb_yp1 (Or.inl hx) (br_f (by decide) ⟨rfl, J⟩)))
  · unfold wpY_take
    exact nb_bt1 (Or.inr hx) (br_f (by decide) (nb_yp1 (Or.inr hx) (br_f (by decide) ⟨rfl, J⟩)))
  · have ct : (nI t).toNatClampNeg = t := nI_clamp (by omega)
    refine nb_bt0 ht (br_t rfl ?_)
    have hQ' : ∃ B, nb_Q L R T word kept held G Wt (nb_cw ql qw n) hc B rl rh rc rt ta tk tv tr tg := by
      obtain ⟨B, hP, hS, hQ⟩ := hJ
      exact ⟨B, hQ⟩
    obtain ⟨B, hQ⟩ := hQ'
    rcases nb_Zt hZ ht with ⟨e, hj⟩ | ⟨p, a, hp, ha, ep, ea, e1, e2, e3, hu⟩
    · refine nb_stt hL hR hT hQ ht (fun _ => br_t rfl ?_) (fun z => absurd e z) (fun z => absurd e z)
      unfold wpY_take
      exact nb_yp0 hZ.1 ht (fun _ => br_f (by decide) ⟨rfl, J⟩) (fun j hj' ej => absurd ej (hj j hj'))
    · have ne : ta t ≠ -1 := by rw [ea]; exact nb_n1 (by omega)
      have cp : (nI p).toNatClampNeg = p := nI_clamp (by omega)
      refine nb_stt hL hR hT hQ ht (fun z => absurd z ne) (fun _ z => br_f (by decide) (br_f (by decide) ⟨pk_in t 16 ht, ?_⟩)) (fun _ z => br_f (by decide) (br_t rfl ?_))
      · obtain ⟨m, em⟩ : ∃ m, n = m + 1 := ⟨n - 1, by omega⟩
        have hwb : ∀ i, i < n → qw i = 0 ∨ qw i = 1 := by
          intro i hi
          obtain ⟨s, b, v1, v2, v3, v4, v5, v6, v7⟩ := hZ.2.1 i hi
          have ne' : ta s ≠ -1 := by rw [v4]; exact nb_n1 (by omega)
          rw [v7]
          by_cases y : tg s = -1
          · exact Or.inl (hQ.2.2.2.2.2.2.1 s v1 ne' y).2
          · obtain ⟨q, m, c', i', b, x1, x2, x3, x4, x5, x6, x7, x8, x9, xa, xb, xc, xd⟩ := nb_Qt hT hL hQ v1 y
            rw [xd]
            exact (hQ.1 q x1).1
        have fin : ∀ (ov : Nat) (mem fl dy fd tree vl vy vd rl rc tr tg : Nat → Int32), ov < 2 → nb_J L wl R T word kept held G Wt (nb_cw ql qw n) hc mem fl dy fd vl vy vd rl rh rc rt ta tk tv tr tg → tg t = -1 → wX_take_50 (fun r u' => wpY_take (fun r' v' => r' = r ∧ i_Rel (k + 5) u' v') (nI L, nI R, nI T, nI n, ac, an, word, kept, held, od, ql, qr, qw) (nI t)) (nI t) (nI L) (nI wl) (nI (2 ^ wl)) (nI R) (nI T) (nI ov) (nI hc) (nI tn) (nI n) ac an mem fl dy fd tree vl vy vd rl rh rc rt ta tk tv tr tg od := by
          intro ov mem fl dy fd tree vl vy vd rl rc tr tg hov hJ htg
          refine nb_t50 ht hZ.1 em hp ep hu ?_
          unfold wpY_take
          refine nb_yp0 hZ.1 ht (fun x => absurd ep (x p hp)) (fun j hj ej => ?_)
          rw [hu j hj ej]
          refine br_t (nI_pos' (by omega)) ⟨pk_in p 16 (by omega), br_t (by rw [cp, e3]; exact z) ⟨pk_in p 16 (by omega), nm_r (e' := qr p) (by rw [cp]) (nb_y34s hZ.1 em hp hwb ⟨?_, nb_mk ⟨⟨hL4, hL, hw, hR2, hR, hT1, hT, hov, htn, hhc⟩, hcn, G, Wt, ?_, nb_Zd hZ ht hp ep em⟩⟩)⟩⟩
          · obtain ⟨B, hP, hS, hQ⟩ := hJ
            rw [e2]
            exact (hQ.2.2.2.2.2.2.1 t ht ne htg).1
          · obtain ⟨B, hP, hS, hQ⟩ := hJ
            exact ⟨B, hP, hS, nb_Qc (nb_Qf hL hR hT hQ ht htg) (fun l hl _ => nb_cwd em hp (by rw [e3]; exact z))⟩
        by_cases y : tg t = -1
        · exact br_t (by rw [ct, y]; exact nb_neg) (fin ov mem fl dy fd tree vl vy vd rl rc tr tg hov hJ y)
        · obtain ⟨q, m', c', i', b, x1, x2, x3, x4, x5, x6, x7, x8, x9, xa, xb, xc, xd⟩ := nb_Qt hT hL hQ ht y
          obtain rfl := nb_inj (by omega) (by omega) (ea.symm.trans xa)
          refine br_f (by rw [ct, x6]; exact nI_pos (by omega)) ⟨pk_in t 16 ht, ?_⟩
          rw [ct, x6]
          refine nb_rf hL hw hR hT hov hJ x1 x2 x7 (by rw [← xd]; exact z) (fun ov' mem' fl' dy' fd' tree' vl' vy' vd' tr' tg' hov' hJ' _ _ => fin ov' mem' fl' dy' fd' tree' vl' vy' vd' _ _ tr' tg' hov' hJ' ?_)
          obtain ⟨B', hP', hS', hQ'⟩ := hJ'
          refine nb_Qn hL hT hQ' ht ea x5 (fun g hg w => ?_)
          by_cases u : g = q
          · rw [u, pk_us] at w
            exact nb_n1 (a := a / 4) (by omega) w.symm
          · rw [pk_un u] at w
            obtain ⟨B, hP, hS, hQ⟩ := hJ
            exact u (hP.2.2.2.2.2.1 g q m' hg x1 x2 (by rw [← xb]; exact w) x7)
      · unfold wpY_take
        refine nb_yp0 hZ.1 ht (fun x => absurd ep (x p hp)) (fun j hj ej => ?_)
        rw [hu j hj ej]
        exact br_t (nI_pos' (by omega)) ⟨pk_in p 16 (by omega), br_f (by rw [cp, e3]; exact z) ⟨rfl, J⟩⟩
end
section
section
variable {L wl R T ov hc tn n : Nat} {ac an : Int32} {mem fl dy fd tree vl vy vd rl rh rc rt ta tk tv tr tg od : Nat → Int32}
variable {post : Int32 → Prop} {pS : SX → Prop} {pI : Int32 → SX → Prop}
variable {word kept held G Wt B ql qr qw : Nat → Int32} {Cw : Nat → Nat}
theorem nb_h58 {l : Nat} (hL : L ≤ 32) (hw : wl ≤ 2) (hR : R ≤ 8) (hT : T ≤ 8) (hov : ov < 2) (htn : tn < R) (hhc : hc + 1 ≤ R) (hJ : nb_J L wl R T word kept held G Wt Cw hc mem fl dy fd vl vy vd rl rh rc rt ta tk tv tr tg) (hl : l < L) (hno : ∀ q, q < R → rl q ≠ nI l) (hC : Cw l = 0) (h : ∀ (ov' tn' : Nat) (mem' fl' dy' fd' tree' vl' vy' vd' rl' rh' rc' tr' tg' : Nat → Int32), ov' < 2 → tn' < R → nb_J L wl R T word (nb_cp kept l word l 4) (upd held l 1) G Wt Cw (hc + 1) mem' fl' dy' fd' vl' vy' vd' rl' rh' rc' rt ta tk tv tr' tg' → pI 0 (nI L, nI wl, nI (2 ^ wl), nI R, nI T, nI ov', nI (hc + 1), nI tn', nI n, ac, an, mem', fl', dy', fd', tree', vl', vy', vd', rl', rh', rc', rt, ta, tk, tv, tr', tg', od)) : wX_hold_58 pI (nI l) (nI L) (nI wl) (nI (2 ^ wl)) (nI R) (nI T) (nI ov) (nI hc) (nI tn) (nI n) ac an mem fl dy fd tree vl vy vd rl rh rc rt ta tk tv tr tg od := by
  unfold wX_hold_58
  refine nb_rcl hL hw hJ hl hno (fun mem' fl' dy' vl' vy' hJ' hnw => ?_)
  refine nb_or hL hw hR hT hov htn hhc hJ' hl hnw (fun r ov2 tn2 mem2 fl2 dy2 fd2 tree2 vl2 vy2 vd2 rl2 rh2 rc2 tr2 tg2 hr hov2 htn2 hJ2 e1 e2 e3 _ => ?_)
  have cr : (nI r).toNatClampNeg = r := nI_clamp (by omega)
  refine ⟨pk_in r 8 (by omega), nm_r (e' := upd rh2 r 1) (by rw [cr]; rfl) (nm_r (nI_1 hc) (h ov2 tn2 mem2 fl2 dy2 fd2 tree2 vl2 vy2 vd2 rl2 _ rc2 tr2 tg2 hov2 htn2 ?_))⟩
  obtain ⟨B, hP, hS, hQ⟩ := hJ2
  exact ⟨B, hP, hS, nb_Qh hL hT hP.2.2.2.2.2.1 hQ hr hl e1 e2 e3 hC⟩
theorem nb_h33 {l : Nat} {x : Int32} (hL : L ≤ 32) (hw : wl ≤ 2) (hR2 : 2 ≤ R) (hR : R ≤ 8) (hT : T ≤ 8) (hov : ov < 2) (htn : tn < R) (hhc : hc + 1 ≤ R) (hJ : nb_J L wl R T word kept held G Wt Cw hc mem fl dy fd vl vy vd rl rh rc rt ta tk tv tr tg) (hl : l < L) (hx : (x = -1 ∧ ∀ q, q < R → rl q ≠ nI l) ∨ ∃ r, r < R ∧ x = nI r ∧ rl r = nI l ∧ rh r = 0) (hC : Cw l = 0) (h6 : R ≤ hc + 1 → pI (-6) (nI L, nI wl, nI (2 ^ wl), nI R, nI T, nI ov, nI hc, nI tn, nI n, ac, an, mem, fl, dy, fd, tree, vl, vy, vd, rl, rh, rc, rt, ta, tk, tv, tr, tg, od)) (h : hc + 1 < R → ∀ (ov' tn' : Nat) (mem' fl' dy' fd' tree' vl' vy' vd' rl' rh' rc' tr' tg' : Nat → Int32), ov' < 2 → tn' < R → nb_J L wl R T word (nb_cp kept l word l 4) (upd held l 1) G Wt Cw (hc + 1) mem' fl' dy' fd' vl' vy' vd' rl' rh' rc' rt ta tk tv tr' tg' → pI 0 (nI L, nI wl, nI (2 ^ wl), nI R, nI T, nI ov', nI (hc + 1), nI tn', nI n, ac, an, mem', fl', dy', fd', tree', vl', vy', vd', rl', rh', rc', rt, ta, tk, tv, tr', tg', od)) : wX_hold_33 pI (nI l) x (nI L) (nI wl) (nI (2 ^ wl)) (nI R) (nI T) (nI ov) (nI hc) (nI tn) (nI n) ac an mem fl dy fd tree vl vy vd rl rh rc rt ta tk tv tr tg od := by
  refine pk_lt hc (R - 1) (fun z => ?_) (fun z => h6 (by omega)) rfl (pk_sub (b := 1) (by omega))
  rcases hx with ⟨rfl, hn⟩ | ⟨r, hr, rfl, er, eh⟩
  · exact br_t nb_neg (nb_h58 hL hw hR hT hov htn hhc hJ hl hn hC (h (by omega)))
  · refine br_f (nI_pos (by omega)) ?_
    refine nb_rf hL hw hR hT hov hJ hr hl er eh (fun ov' mem' fl' dy' fd' tree' vl' vy' vd' tr' tg' hov' hJ' _ _ => ?_)
    refine nb_h58 hL hw hR hT hov' htn hhc hJ' hl (fun q hq x => ?_) hC (h (by omega))
    by_cases z : q = r
    · subst z
      rw [pk_us] at x
      exact nb_n1 (a := l) (by omega) x.symm
    · rw [pk_un z] at x
      obtain ⟨B, hP, hS, hQ⟩ := hJ
      exact z (hP.2.2.2.2.2.1 q r l hq hr hl x er)
end
theorem i_vc_hold {k : Nat} {u : SX} {v : SY} (I : i_Rel k u v) (hk : k + 5 ≤ 2564) (v1 : Int32) : wpX_hold (fun r u' => wpY_hold (fun r' v' => r' = r ∧ i_Rel (k + 5) u' v') v v1) u v1 := by
  refine I (fun u v => wpX_hold (fun r u' => wpY_hold (fun r' v' => r' = r ∧ i_Rel (k + 5) u' v') v v1) u v1) ?_
  intro L wl R T ov hc tn n ac an mem fl dy fd tree vl vy vd rl rh rc rt ta tk tv tr tg od word kept held ql qr qw hRR
  have J : i_Rel (k + 5) (nI L, nI wl, nI (2 ^ wl), nI R, nI T, nI ov, nI hc, nI tn, nI n, ac, an, mem, fl, dy, fd, tree, vl, vy, vd, rl, rh, rc, rt, ta, tk, tv, tr, tg, od) (nI L, nI R, nI T, nI n, ac, an, word, kept, held, od, ql, qr, qw) := nb_mk hRR
  obtain ⟨⟨hL4, hL, hw, hR2, hR, hT1, hT, hov, htn, hhc⟩, hcn, G, Wt, hJ, hZ⟩ := hRR
  unfold wpX_hold
  rcases pk_ix v1 (n := L) (by omega) with hx | hx | ⟨l, hl, rfl⟩
  · exact nb_bl1 (Or.inl hx) (br_f (by decide) (br_t hx ⟨rfl, J⟩))
  · exact nb_bl1 (Or.inr hx) (br_f (by decide) (br_c (fun _ => ⟨rfl, J⟩) (fun _ => br_f (Int32.not_lt.mpr hx) ⟨rfl, J⟩)))
  · have cl : (nI l).toNatClampNeg = l := nI_clamp (by omega)
    have hQ' : ∃ B, nb_Q L R T word kept held G Wt (nb_cw ql qw n) hc B rl rh rc rt ta tk tv tr tg := by
      obtain ⟨B, hP, hS, hQ⟩ := hJ
      exact ⟨B, hQ⟩
    obtain ⟨B, hQ⟩ := hQ'
    -- the reference, at a line that isn't held
    have hY : held l = 0 → ∀ (r : Int32) (u' : SX), (R ≤ hc + 1 → (-6 : Int32) = r ∧ i_Rel (k + 5) u' (nI L, nI R, nI T, nI n, ac, an, word, kept, held, od, ql, qr, qw)) → (hc + 1 < R → (0 : Int32) = r ∧ i_Rel (k + 5) u' (nI L, nI R, nI T, nI n, ac, an, word, nb_cp kept l word l 4, upd held l 1, od, ql, qr, qw)) → wpY_hold (fun r' v' => r' = r ∧ i_Rel (k + 5) u' v') (nI L, nI R, nI T, nI n, ac, an, word, kept, held, od, ql, qr, qw) (nI l) := by
      intro e r u' h6 h0
      refine br_f (nI_pos (by omega)) (br_t (nI_lt hl (by omega)) ⟨pk_in l 32 (by omega), br_t (by rw [cl]; exact e) (Exists.intro (L + 1) ?_)⟩)
      exact nb_yh31 hL hR hR2 hl (fun z => h6 (by omega)) (fun z => h0 (by omega)) L 0 (by omega)
    have main : ∀ x, held l = 0 → ((x = -1 ∧ ∀ q, q < R → rl q ≠ nI l) ∨ ∃ r, r < R ∧ x = nI r ∧ rl r = nI l ∧ rh r = 0) → wX_hold_33 (fun r u' => wpY_hold (fun r' v' => r' = r ∧ i_Rel (k + 5) u' v') (nI L, nI R, nI T, nI n, ac, an, word, kept, held, od, ql, qr, qw) (nI l)) (nI l) x (nI L) (nI wl) (nI (2 ^ wl)) (nI R) (nI T) (nI ov) (nI hc) (nI tn) (nI n) ac an mem fl dy fd tree vl vy vd rl rh rc rt ta tk tv tr tg od := by
      intro x e hx
      refine nb_h33 hL hw hR2 hR hT hov htn hhc hJ hl hx (nb_Cw0 hL hT hQ hZ hl e) (fun z => hY e _ _ (fun _ => ⟨rfl, J⟩) (fun y => absurd y (by omega))) (fun z ov' tn' mem' fl' dy' fd' tree' vl' vy' vd' rl' rh' rc' tr' tg' hov' htn' hJ' => hY e _ _ (fun y => absurd y (by omega)) (fun _ => ⟨rfl, nb_mk ⟨⟨hL4, hL, hw, hR2, hR, hT1, hT, hov', htn', by omega⟩, ?_, G, Wt, hJ', hZ⟩⟩))
      rw [nb_cnup (p := fun l => decide (held l ≠ 0)) (a := l) (by simp [e]) (by simp [pk_us]) hl (fun k _ hk => by simp only [pk_un hk]), hcn]
    refine nb_bl0 hL hl (br_t rfl (nb_fr hR (fun hn => br_t nb_neg (main _ (hQ.2.2.2.1 l hl hn) (Or.inl ⟨rfl, hn⟩))) (fun r hr er => br_f (nI_pos (by omega)) ⟨pk_in r 8 (by omega), ?_⟩)))
    obtain ⟨c', w1, w2, w3, w4, w5, w6, w7⟩ := hQ.2.1 r l hr hl er
    have cr : (nI r).toNatClampNeg = r := nI_clamp (by omega)
    by_cases z : rh r = 0
    · exact br_t (by rw [cr]; exact z) (main _ (w6.trans z) (Or.inr ⟨r, hr, rfl, er, z⟩))
    · refine br_f (by rw [cr]; exact z) ?_
      exact br_f (nI_pos (by omega)) (br_t (nI_lt hl (by omega)) ⟨pk_in l 32 (by omega), br_f (by rw [cl, w6]; exact z) ⟨rfl, J⟩⟩)
section
variable {n : Nat} {ta od ql qr qw G Wt : Nat → Int32}
theorem nb_Zr {l : Nat} (hl : l < 32) (h : nb_Z n ta od ql qr qw G Wt) : nb_Z n ta od ql qr (nb_rw ql qw l n) G (fun t => if (ta t).toNatClampNeg / 4 = l then 0 else Wt t) := by
  obtain ⟨z1, z2, z3, z4, z5⟩ := h
  refine ⟨z1, fun i hi => ?_, z3, z4, z5⟩
  obtain ⟨s, b, v1, v2, v3, v4, v5, v6, v7⟩ := z2 i hi
  refine ⟨s, b, v1, v2, v3, v4, v5, v6, ?_⟩
  show (if i < n ∧ ql i = nI l then 0 else qw i) = (if (ta s).toNatClampNeg / 4 = l then 0 else Wt s)
  rw [v4, nI_clamp (by omega), v5, v7]
  by_cases z : b / 4 = l
  · rw [if_pos z, if_pos ⟨hi, by rw [z]⟩]
  · rw [if_neg z, if_neg (fun y => z (nb_inj (by omega) (by omega) y.2))]
end
theorem i_vc_release {k : Nat} {u : SX} {v : SY} (I : i_Rel k u v) (hk : k + 5 ≤ 2564) (v1 : Int32) : wpX_release (fun r u' => wpY_release (fun r' v' => r' = r ∧ i_Rel (k + 5) u' v') v v1) u v1 := by
  refine I (fun u v => wpX_release (fun r u' => wpY_release (fun r' v' => r' = r ∧ i_Rel (k + 5) u' v') v v1) u v1) ?_
  intro L wl R T ov hc tn n ac an mem fl dy fd tree vl vy vd rl rh rc rt ta tk tv tr tg od word kept held ql qr qw hRR
  have J : i_Rel (k + 5) (nI L, nI wl, nI (2 ^ wl), nI R, nI T, nI ov, nI hc, nI tn, nI n, ac, an, mem, fl, dy, fd, tree, vl, vy, vd, rl, rh, rc, rt, ta, tk, tv, tr, tg, od) (nI L, nI R, nI T, nI n, ac, an, word, kept, held, od, ql, qr, qw) := nb_mk hRR
  obtain ⟨⟨hL4, hL, hw, hR2, hR, hT1, hT, hov, htn, hhc⟩, hcn, G, Wt, hJ, hZ⟩ := hRR
  have h16 := hZ.1
  unfold wpX_release
  rcases pk_ix v1 (n := L) (by omega) with hx | hx | ⟨l, hl, rfl⟩
  · unfold wpY_release
    exact nb_bl1 (Or.inl hx) (br_f (by decide) (nb_yw1 (Or.inl hx) (br_f (by decide) ⟨rfl, J⟩)))
  · unfold wpY_release
    exact nb_bl1 (Or.inr hx) (br_f (by decide) (nb_yw1 (Or.inr hx) (br_f (by decide) ⟨rfl, J⟩)))
  · have cl : (nI l).toNatClampNeg = l := nI_clamp (by omega)
    obtain ⟨B, hP, hS, hQ⟩ := hJ
    have hY0 : held l = 0 → wpY_release (fun r' v' => r' = (-1) ∧ i_Rel (k + 5) (nI L, nI wl, nI (2 ^ wl), nI R, nI T, nI ov, nI hc, nI tn, nI n, ac, an, mem, fl, dy, fd, tree, vl, vy, vd, rl, rh, rc, rt, ta, tk, tv, tr, tg, od) v') (nI L, nI R, nI T, nI n, ac, an, word, kept, held, od, ql, qr, qw) (nI l) := by
      intro e
      unfold wpY_release
      exact nb_yw0 hL hZ.1 hl (fun _ => br_f (by decide) ⟨rfl, J⟩) (fun z => absurd e z)
    refine nb_bl0 hL hl (br_t rfl (nb_fr hR (fun hn => br_t nb_neg (hY0 (hQ.2.2.2.1 l hl hn))) (fun r hr er => br_f (nI_pos (by omega)) ⟨pk_in r 8 (by omega), ?_⟩)))
    obtain ⟨c', w1, w2, w3, w4, w5, w6, w7⟩ := hQ.2.1 r l hr hl er
    have cr : (nI r).toNatClampNeg = r := nI_clamp (by omega)
    by_cases z : rh r = 0
    · exact br_t (by rw [cr]; exact z) (hY0 (w6.trans z))
    · have hne : held l ≠ 0 := by rw [w6]; exact z
      have e1 := nb_cnup (p := fun q => decide (upd held l 0 q ≠ 0)) (q := fun q => decide (held q ≠ 0)) (a := l) (n := L) (by simp [pk_us]) (by simp [hne]) hl (fun k _ hk => by simp only [pk_un hk])
      obtain ⟨hc', ehc⟩ : ∃ hc', hc = hc' + 1 := ⟨hc - 1, by omega⟩
      have hQ2 := nb_Qz (hc' := hc') hL hP.2.2.2.2.2.1 hQ hr hl er z ehc
      have hQ3 := nb_Qc (Cw' := nb_cw ql (nb_rw ql qw l n) n) hQ2 (fun m hm y => nb_cwr (by omega) (by omega) (fun x => y (by rw [x, pk_us])))
      have fin : ∀ (u' : SX), i_Rel (k + 5) u' (nI L, nI R, nI T, nI n, ac, an, word, kept, upd held l 0, od, ql, qr, nb_rw ql qw l n) → wpY_release (fun r' v' => r' = nI c' ∧ i_Rel (k + 5) u' v') (nI L, nI R, nI T, nI n, ac, an, word, kept, held, od, ql, qr, qw) (nI l) := by
        intro u' hu'
        unfold wpY_release
        refine nb_yw0 hL hZ.1 hl (fun y => absurd y hne) (fun _ => ?_)
        rw [← (w7 z).1]
        exact br_t (nI_pos' (by omega)) ⟨pk_in l 32 (by omega), nm_r (by rw [cl]; rfl) (nb_yr21s hZ.1 ⟨rfl, hu'⟩)⟩
      refine br_f (by rw [cr]; exact z) ⟨pk_in r 8 (by omega), nm_r (e' := upd rh r 0) (by rw [cr]; rfl) (nm_r (e' := nI hc') (by rw [ehc]; exact nI_pred hc') ⟨pk_in r 8 (by omega), ?_⟩)⟩
      by_cases y : c' = 0
      · have e0 : rc r = 0 := by rw [w2, y, nI_0]
        refine br_t (by rw [cr]; exact e0) ⟨pk_in r 8 (by omega), nm_r (e' := upd rl r (-1)) (by rw [cr]) ⟨pk_in r 8 (by omega), ?_⟩⟩
        rw [cr, w2]
        have hQ4 := nb_Qr (B' := B) (tr' := tr) (tg' := tg) (c := 0) hL hR hT hP.2.2.2.2.2.1 hQ3 hr hl er pk_us (by omega) (by rw [e0, nI_0]) (fun q k hq hk => by split <;> rfl) (fun t ht x => by
          obtain ⟨q, m, c2, i, b, x1, x2, x3, x4, x5, x6, x7, x8, x9, xa, xb, xc, xd⟩ := nb_Qt hT hL hQ ht (by rw [x]; exact nb_n1 (by omega))
          obtain rfl := nb_inj (by omega) (by omega) (x.symm.trans x6)
          have := nb_inj (by omega) (by omega) (w2.symm.trans x8)
          omega) (fun t ht x => ⟨rfl, rfl⟩)
        rw [nb_ue e0] at hQ4
        exact fin _ (nb_mk ⟨⟨hL4, hL, hw, hR2, hR, hT1, hT, hov, htn, by omega⟩, by omega, G, _, ⟨B, nb_Pr hL hP, hS, hQ4⟩, nb_Zr (by omega) hZ⟩)
      · refine br_f (by rw [cr, w2]; exact nI_ne0 (by omega) (by omega)) ⟨pk_in r 8 (by omega), ?_⟩
        rw [cr, w2]
        exact fin _ (nb_mk ⟨⟨hL4, hL, hw, hR2, hR, hT1, hT, hov, htn, by omega⟩, by omega, G, _, ⟨B, hP, hS, hQ3⟩, nb_Zr (by omega) hZ⟩)
end
section
section
variable {L R T n : Nat} {ac an : Int32} {word kept held od ql qr qw : Nat → Int32}
variable {pI : Int32 → SY → Prop}
/-- the reference refuses what isn't a kind or an address -/
theorem nb_yqb {t : Nat} {kd ad vv : Int32} (hn : n ≤ 16) (ht : t < 16) (hb : kd < 0 ∨ ¬ kd ≤ 5 ∨ ad < 0 ∨ nI (L * 4) ≤ ad) (h : pI (-3) (nI L, nI R, nI T, nI n, ac, an, word, kept, held, od, ql, qr, qw)) : wpY_request pI (nI L, nI R, nI T, nI n, ac, an, word, kept, held, od, ql, qr, qw) (nI t) kd ad vv := by
  unfold wpY_request
  have m4 := nb_m4 L
  have hlt : ¬ kd < 0 → kd ≤ 5 → ¬ ad < 0 → ¬ ad < nI L * 4 := by
    intro h0 h5 ha
    rw [m4]
    rcases hb with y | y | y | y
    · exact absurd y h0
    · exact absurd h5 y
    · exact absurd y ha
    · exact Int32.not_lt.mpr y
  refine nb_yp0 hn ht (fun _ => br_f (by decide) (br_c (fun _ => h) (fun h0 => br_c (fun h5 => br_c (fun _ => h) (fun ha => br_f (hlt h0 h5 ha) h)) (fun _ => h)))) (fun j hj _ => br_f (fun x => ?_) (br_c (fun _ => h) (fun h0 => br_c (fun h5 => br_c (fun _ => h) (fun ha => br_f (hlt h0 h5 ha) h)) (fun _ => h))))
  have z := nI_pos (n := j) (by omega)
  rw [x] at z
  exact z (by decide)
theorem nb_yq {t a : Nat} {kd vv : Int32} (hL : L ≤ 32) (hT : T ≤ 8) (hn : n ≤ 16) (ht : t < 16) (ha : a < L * 4) (h0 : ¬ kd < 0) (h5 : kd ≤ 5) (h4 : ∀ j, j < n → od j = nI t → pI (-4) (nI L, nI R, nI T, nI n, ac, an, word, kept, held, od, ql, qr, qw)) (hs : (∀ j, j < n → od j ≠ nI t) → held (a / 4) ≠ 0 → T ≤ nb_cw ql qw n (a / 4) → pI (-5) (nI L, nI R, nI T, nI n, ac, an, word, kept, held, od, ql, qr, qw)) (h : (∀ j, j < n → od j ≠ nI t) → (held (a / 4) = 0 ∨ nb_cw ql qw n (a / 4) < T) → wY_request_90 pI (nI t) kd (nI a) vv (nI (a / 4)) (nI L) (nI R) (nI T) (nI n) ac an word kept held od ql qr qw) : wpY_request pI (nI L, nI R, nI T, nI n, ac, an, word, kept, held, od, ql, qr, qw) (nI t) kd (nI a) vv := by
  unfold wpY_request
  have m4 := nb_m4 L
  have c4 : (nI (a / 4)).toNatClampNeg = a / 4 := nI_clamp (by omega)
  have cle := nb_cnle (fun i => decide (ql i = nI (a / 4) ∧ qw i ≠ 0)) n
  refine nb_yp0 hn ht (fun hj => ?_) (fun j hj ej => ?_)
  · refine br_f (by decide) (br_f h0 (br_t h5 (br_f (nI_pos (by omega)) (br_t (by rw [m4]; exact nI_lt ha (by omega)) (br_t rfl ⟨nb_n0, nm_r (e' := nI (a / 4)) (nb_d4 (by omega)) ?_⟩)))))
    refine nb_yw0 hL hn (by omega) (fun e => ⟨pk_in (a / 4) 32 (by omega), br_t (by rw [c4]; exact e) (h hj (Or.inl e))⟩) (fun e => ⟨pk_in (a / 4) 32 (by omega), br_f (by rw [c4]; exact e) ?_⟩)
    exact pk_lt (nb_cw ql qw n (a / 4)) T (fun z => h hj (Or.inr z)) (fun z => hs hj e z) rfl rfl (by unfold nb_cw; omega)
  · have z := nI_pos (n := j) (by omega)
    refine br_f (fun x => ?_) (br_f h0 (br_t h5 (br_f (nI_pos (by omega)) (br_t (by rw [m4]; exact nI_lt ha (by omega)) (br_f (nb_n1 (by omega)) (h4 j hj ej))))))
    rw [x] at z
    exact z (by decide)
end
theorem i_vc_request {k : Nat} {u : SX} {v : SY} (I : i_Rel k u v) (hk : k + 5 ≤ 2564) (v1 : Int32) (v2 : Int32) (v3 : Int32) (v4 : Int32) : wpX_request (fun r u' => wpY_request (fun r' v' => r' = r ∧ i_Rel (k + 5) u' v') v v1 v2 v3 v4) u v1 v2 v3 v4 := by
  refine I (fun u v => wpX_request (fun r u' => wpY_request (fun r' v' => r' = r ∧ i_Rel (k + 5) u' v') v v1 v2 v3 v4) u v1 v2 v3 v4) ?_
  intro L wl R T ov hc tn n ac an mem fl dy fd tree vl vy vd rl rh rc rt ta tk tv tr tg od word kept held ql qr qw hRR
  have J : i_Rel (k + 5) (nI L, nI wl, nI (2 ^ wl), nI R, nI T, nI ov, nI hc, nI tn, nI n, ac, an, mem, fl, dy, fd, tree, vl, vy, vd, rl, rh, rc, rt, ta, tk, tv, tr, tg, od) (nI L, nI R, nI T, nI n, ac, an, word, kept, held, od, ql, qr, qw) := nb_mk hRR
  obtain ⟨⟨hL4, hL, hw, hR2, hR, hT1, hT, hov, htn, hhc⟩, hcn, G, Wt, hJ, hZ⟩ := hRR
  have h16 := hZ.1
  unfold wpX_request
  rcases pk_ix v1 (n := 16) (by decide) with hx | hx | ⟨t, ht, rfl⟩
  · unfold wpY_request
    exact nb_bt1 (Or.inl hx) (br_f (by decide) (nb_yp1 (Or.inl hx) (br_t rfl ⟨rfl, J⟩)))
  · unfold wpY_request
    exact nb_bt1 (Or.inr hx) (br_f (by decide) (nb_yp1 (Or.inr hx) (br_t rfl ⟨rfl, J⟩)))
  · have ct : (nI t).toNatClampNeg = t := nI_clamp (by omega)
    refine nb_bt0 ht (br_t rfl ?_)
    refine br_c (fun z0 => nb_yqb h16 ht (Or.inl z0) ⟨rfl, J⟩) (fun z0 => br_c (fun z5 => nb_yqb h16 ht (Or.inr (Or.inl (Int32.not_le.mpr z5))) ⟨rfl, J⟩) (fun z5 => ?_))
    have z5' : v2 ≤ 5 := Int32.not_lt.mp z5
    rcases pk_ix v3 (n := L * 4) (by omega) with hx | hx | ⟨a, ha, rfl⟩
    · exact nb_ba1 (Or.inl hx) (br_f (by decide) (nb_yqb h16 ht (Or.inr (Or.inr (Or.inl hx))) ⟨rfl, J⟩))
    · exact nb_ba1 (Or.inr hx) (br_f (by decide) (nb_yqb h16 ht (Or.inr (Or.inr (Or.inr hx))) ⟨rfl, J⟩))
    · have hl : a / 4 < L := by omega
      refine nb_ba0 hL ha (br_t rfl ⟨pk_in t 16 ht, ?_⟩)
      rcases nb_Zt hZ ht with ⟨e, hj⟩ | ⟨p, b, hp, hb, ep, eb, e1, e2, e3, hu⟩
      · have hn : n < 16 := nb_Zn hZ ht e
        refine br_t (by rw [ct, e]; exact nb_neg) ⟨nb_n0, nm_r (e' := nI (a / 4)) (nb_d4 (by omega)) ?_⟩
        have hQ' : ∃ B, nb_Q L R T word kept held G Wt (nb_cw ql qw n) hc B rl rh rc rt ta tk tv tr tg := by
          obtain ⟨B, hP, hS, hQ⟩ := hJ
          exact ⟨B, hQ⟩
        obtain ⟨B, hQ⟩ := hQ'
        have hh : held (a / 4) = 0 ∨ held (a / 4) = 1 := by
          by_cases z : ∃ q, q < R ∧ rl q = nI (a / 4)
          · obtain ⟨q, hq, eq⟩ := z
            obtain ⟨c', w1, w2, w3, w4, w5, w6, w7⟩ := hQ.2.1 q (a / 4) hq hl eq
            rw [w6]
            exact (hQ.1 q hq).1
          · exact Or.inl (hQ.2.2.2.1 (a / 4) hl (fun q hq x => z ⟨q, hq, x⟩))
        have main : ∀ x, (held (a / 4) = 0 ∨ nb_cw ql qw n (a / 4) < T) → ((x = -1 ∧ ∀ q, q < R → rl q ≠ nI (a / 4)) ∨ ∃ r, r < R ∧ x = nI r ∧ rl r = nI (a / 4) ∧ (rh r = 0 ∨ ¬ nI T ≤ rc r)) → wX_request_85 (fun r u' => wpY_request (fun r' v' => r' = r ∧ i_Rel (k + 5) u' v') (nI L, nI R, nI T, nI n, ac, an, word, kept, held, od, ql, qr, qw) (nI t) v2 (nI a) v4) (nI t) v2 (nI a) v4 (nI (a / 4)) x (nI L) (nI wl) (nI (2 ^ wl)) (nI R) (nI T) (nI ov) (nI hc) (nI tn) (nI n) ac an mem fl dy fd tree vl vy vd rl rh rc rt ta tk tv tr tg od := by
          intro x hok hx
          refine nb_rq85 (Cw' := nb_cw (upd ql n (nI (a / 4))) (upd qw n (held (a / 4))) (n + 1)) hL hw hR hT hT1 hov htn hhc hn hJ ht ha e hx (fun q hq ne => ?_) (fun ne => ?_) (fun ov' tn' mem' fl' dy' fd' tree' vl' vy' vd' rl' rh' rc' rt' tr' tg' hov' htn' hJ' => ?_)
          · rw [nb_cwa, if_neg (fun y => ne (nb_inj (by omega) (by omega) y.1).symm)]
            rfl
          · rw [nb_cwa, if_pos ⟨rfl, ne⟩]
          · refine nb_yq hL hT h16 ht ha z0 z5' (fun j hj' ej => absurd ej (hj j hj')) (fun _ y1 y2 => by rcases hok with y | y; exact absurd y y1; omega) (fun _ _ => nb_y90 hn (by omega) hh ⟨rfl, nb_mk ⟨⟨hL4, hL, hw, hR2, hR, hT1, hT, hov', htn', hhc⟩, hcn, _, _, hJ', ?_⟩⟩)
            exact nb_Za hZ ht e (by omega) (fun s hs => by rw [pk_un hs, pk_un hs]) (fun s hs => by rw [pk_un hs, pk_un hs]) pk_us pk_us
        refine nb_fr hR (fun hno => br_t nb_neg (main _ (Or.inl (hQ.2.2.2.1 (a / 4) hl hno)) (Or.inl ⟨rfl, hno⟩))) (fun r hr er => br_f (nI_pos (by omega)) ⟨pk_in r 8 (by omega), ?_⟩)
        obtain ⟨c', w1, w2, w3, w4, w5, w6, w7⟩ := hQ.2.1 r (a / 4) hr hl er
        have cr : (nI r).toNatClampNeg = r := nI_clamp (by omega)
        by_cases z : rh r = 0
        · exact br_t (by rw [cr]; exact z) (main _ (Or.inl (w6.trans z)) (Or.inr ⟨r, hr, rfl, er, Or.inl z⟩))
        · refine br_f (by rw [cr]; exact z) ⟨pk_in r 8 (by omega), ?_⟩
          have ec := (w7 z).1
          refine pk_lt c' T (fun y => main _ (Or.inr (by omega)) (Or.inr ⟨r, hr, rfl, er, Or.inr (by rw [w2]; exact nI_ge (by omega) (by omega))⟩)) (fun y => ?_) (by rw [cr, w2])
          exact nb_yq hL hT h16 ht ha z0 z5' (fun j hj' ej => absurd ej (hj j hj')) (fun _ _ _ => ⟨rfl, J⟩) (fun _ y1 => by
            rcases y1 with y1 | y1
            · exact absurd (w6.symm.trans y1) z
            · omega)
      · refine br_f (by rw [ct, eb]; exact nI_pos (by omega)) ?_
        exact nb_yq hL hT h16 ht ha z0 z5' (fun _ _ _ => ⟨rfl, J⟩) (fun x => absurd ep (x p hp)) (fun x => absurd ep (x p hp))
end
section
/-- the first i cells filled by v, the rest 0 -/
def nb_fi (v : Nat → Int32) (i : Nat) : Nat → Int32 := fun j => if j < i then v j else 0
theorem nb_fi0 (v : Nat → Int32) : nb_fi v 0 = fun _ => 0 := by
  funext j
  exact if_neg (by omega)
theorem nb_fis (v : Nat → Int32) (i : Nat) : upd (nb_fi v i) i (v i) = nb_fi v (i + 1) := by
  funext j
  simp only [upd, nb_fi]
  by_cases h : j = i
  · subst h
    rw [if_pos rfl, if_pos (by omega)]
  · rw [if_neg h]
    by_cases h2 : j < i
    · rw [if_pos h2, if_pos (by omega)]
    · rw [if_neg h2, if_neg (by omega)]
theorem nb_fin {v : Nat → Int32} {i j : Nat} (h : j < i) : nb_fi v i j = v j := if_pos h
def nb_m (_ : Nat) : Int32 := -1
def nb_v (j : Nat) : Int32 := nI j * 37
def nb_kl (x lo hi : Int32) : Int32 := if lo ≤ x then (if x ≤ hi then x else hi) else lo
theorem nb_klN (x : Int32) {lo hi : Nat} (h : lo ≤ hi) (hh : hi < 2 ^ 31) : ∃ m, lo ≤ m ∧ m ≤ hi ∧ nb_kl x (nI lo) (nI hi) = nI m := by
  unfold nb_kl
  by_cases z : nI lo ≤ x
  · rw [if_pos z]
    by_cases y : x ≤ nI hi
    · rw [if_pos y]
      have x0 : ¬ x < 0 := fun w => Int32.not_lt.mpr (Int32.le_trans (nI_pos' (n := lo) (by omega)) z) w
      obtain ⟨j, hj, rfl⟩ := nI_of x0
      exact ⟨j, (nI_leI (by omega) hj).mp z, (nI_leI hj hh).mp y, rfl⟩
    · rw [if_neg y]
      exact ⟨hi, h, Nat.le_refl _, rfl⟩
  · rw [if_neg z]
    exact ⟨lo, Nat.le_refl _, h, rfl⟩
theorem nb_kc {C : Int32 → Prop} {x lo hi y : Int32} (e : nb_kl x lo hi = y) (h : C y) : (lo ≤ x → ((x ≤ hi → C x) ∧ (¬ x ≤ hi → C hi))) ∧ (¬ lo ≤ x → C lo) := by
  subst e
  unfold nb_kl at h
  by_cases z : lo ≤ x
  · rw [if_pos z] at h
    refine br_t z ?_
    by_cases w : x ≤ hi
    · rw [if_pos w] at h
      exact br_t w h
    · rw [if_neg w] at h
      exact br_f w h
  · rw [if_neg z] at h
    exact br_f z h
theorem nb_xc {post : Int32 → Prop} {u : SX} {x lo hi y : Int32} (e : nb_kl x lo hi = y) (h : post y) : wpX_clamp post u x lo hi := by
  obtain ⟨a1, a2, a3, a4, a5, a6, a7, a8, a9, a10, a11, a12, a13, a14, a15, a16, a17, a18, a19, a20, a21, a22, a23, a24, a25, a26, a27, a28, a29⟩ := u
  exact nb_kc e h
section
variable {L wl R T ov hc tn n : Nat} {ac an : Int32} {mem fl dy fd tree vl vy vd rl rh rc rt ta tk tv tr tg od : Nat → Int32}
variable {pS : SX → Prop}
theorem nb_i291 (h : pS (nI L, nI wl, nI (2 ^ wl), nI R, nI T, nI ov, nI hc, nI tn, nI n, ac, an, mem, fl, dy, fd, tree, vl, vy, vd, rl, rh, rc, rt, nb_fi nb_m 16, tk, tv, tr, nb_fi nb_m 16, od)) : ∀ d i, i + d = 16 → wX_init_291 pS (nI L) (nI wl) (nI (2 ^ wl)) (nI R) (nI T) (nI ov) (nI hc) (nI tn) (nI n) ac an (d + 1) (nI i) mem fl dy fd tree vl vy vd rl rh rc rt (nb_fi nb_m i) tk tv tr (nb_fi nb_m i) od := by
  intro d
  induction d with
  | zero =>
    intro i ei
    obtain rfl : i = 16 := by omega
    exact pk_le 16 16 (fun _ => h) (fun z => absurd z (by omega))
  | succ d ih =>
    intro i ei
    have ci : (nI i).toNatClampNeg = i := nI_clamp (by omega)
    exact pk_le 16 i (fun z => absurd z (by omega)) (fun _ => ⟨pk_in i 16 (by omega), nm_r (by rw [ci]; exact nb_fis nb_m i) ⟨pk_in i 16 (by omega), nm_r (by rw [ci]; exact nb_fis nb_m i) (nm_r (nI_1 i) (ih (i + 1) (by omega)))⟩⟩)
theorem nb_i291s (h : pS (nI L, nI wl, nI (2 ^ wl), nI R, nI T, nI ov, nI hc, nI tn, nI n, ac, an, mem, fl, dy, fd, tree, vl, vy, vd, rl, rh, rc, rt, nb_fi nb_m 16, tk, tv, tr, nb_fi nb_m 16, od)) : ∃ q, wX_init_291 pS (nI L) (nI wl) (nI (2 ^ wl)) (nI R) (nI T) (nI ov) (nI hc) (nI tn) (nI n) ac an q 0 mem fl dy fd tree vl vy vd rl rh rc rt (fun _ => 0) tk tv tr (fun _ => 0) od := by
  have k := nb_i291 h 16 0 rfl
  rw [nb_fi0] at k
  exact ⟨_, k⟩
theorem nb_i268 (h : ∃ q, wX_init_291 pS (nI L) (nI wl) (nI (2 ^ wl)) (nI R) (nI T) (nI ov) (nI hc) (nI tn) (nI n) ac an q 0 mem fl dy fd tree (nb_fi nb_m 2) vy vd rl rh rc rt ta tk tv tr tg od) : ∀ d i, i + d = 2 → wX_init_268 pS (nI L) (nI wl) (nI (2 ^ wl)) (nI R) (nI T) (nI ov) (nI hc) (nI tn) (nI n) ac an (d + 1) (nI i) mem fl dy fd tree (nb_fi nb_m i) vy vd rl rh rc rt ta tk tv tr tg od := by
  intro d
  induction d with
  | zero =>
    intro i ei
    obtain rfl : i = 2 := by omega
    exact pk_le 2 2 (fun _ => h) (fun z => absurd z (by omega))
  | succ d ih =>
    intro i ei
    have ci : (nI i).toNatClampNeg = i := nI_clamp (by omega)
    exact pk_le 2 i (fun z => absurd z (by omega)) (fun _ => ⟨pk_in i 2 (by omega), nm_r (by rw [ci]; exact nb_fis nb_m i) (nm_r (nI_1 i) (ih (i + 1) (by omega)))⟩)
theorem nb_i268s (h : ∃ q, wX_init_291 pS (nI L) (nI wl) (nI (2 ^ wl)) (nI R) (nI T) (nI ov) (nI hc) (nI tn) (nI n) ac an q 0 mem fl dy fd tree (nb_fi nb_m 2) vy vd rl rh rc rt ta tk tv tr tg od) : ∃ q, wX_init_268 pS (nI L) (nI wl) (nI (2 ^ wl)) (nI R) (nI T) (nI ov) (nI hc) (nI tn) (nI n) ac an q 0 mem fl dy fd tree (fun _ => 0) vy vd rl rh rc rt ta tk tv tr tg od := by
  have k := nb_i268 h 2 0 rfl
  rw [nb_fi0] at k
  exact ⟨_, k⟩
theorem nb_i236 (h : ∃ q, wX_init_268 pS (nI L) (nI wl) (nI (2 ^ wl)) (nI R) (nI T) (nI ov) (nI hc) (nI tn) (nI n) ac an q 0 mem (nb_fi nb_m 8) dy fd tree vl vy vd (nb_fi nb_m 8) rh rc rt ta tk tv tr tg od) : ∀ d i, i + d = 8 → wX_init_236 pS (nI L) (nI wl) (nI (2 ^ wl)) (nI R) (nI T) (nI ov) (nI hc) (nI tn) (nI n) ac an (d + 1) (nI i) mem (nb_fi nb_m i) dy fd tree vl vy vd (nb_fi nb_m i) rh rc rt ta tk tv tr tg od := by
  intro d
  induction d with
  | zero =>
    intro i ei
    obtain rfl : i = 8 := by omega
    exact pk_le 8 8 (fun _ => h) (fun z => absurd z (by omega))
  | succ d ih =>
    intro i ei
    have ci : (nI i).toNatClampNeg = i := nI_clamp (by omega)
    exact pk_le 8 i (fun z => absurd z (by omega)) (fun _ => ⟨pk_in i 8 (by omega), nm_r (by rw [ci]; exact nb_fis nb_m i) ⟨pk_in i 8 (by omega), nm_r (by rw [ci]; exact nb_fis nb_m i) (nm_r (nI_1 i) (ih (i + 1) (by omega)))⟩⟩)
theorem nb_i236s (h : ∃ q, wX_init_268 pS (nI L) (nI wl) (nI (2 ^ wl)) (nI R) (nI T) (nI ov) (nI hc) (nI tn) (nI n) ac an q 0 mem (nb_fi nb_m 8) dy fd tree vl vy vd (nb_fi nb_m 8) rh rc rt ta tk tv tr tg od) : ∃ q, wX_init_236 pS (nI L) (nI wl) (nI (2 ^ wl)) (nI R) (nI T) (nI ov) (nI hc) (nI tn) (nI n) ac an q 0 mem (fun _ => 0) dy fd tree vl vy vd (fun _ => 0) rh rc rt ta tk tv tr tg od := by
  have k := nb_i236 h 8 0 rfl
  rw [nb_fi0] at k
  exact ⟨_, k⟩
theorem nb_i207 (h : ∃ q, wX_init_236 pS (nI L) (nI wl) (nI (2 ^ wl)) (nI R) (nI T) (nI ov) (nI hc) (nI tn) (nI n) ac an q 0 (nb_fi nb_v 128) fl dy fd tree vl vy vd rl rh rc rt ta tk tv tr tg od) : ∀ d i, i + d = 128 → wX_init_207 pS (nI L) (nI wl) (nI (2 ^ wl)) (nI R) (nI T) (nI ov) (nI hc) (nI tn) (nI n) ac an (d + 1) (nI i) (nb_fi nb_v i) fl dy fd tree vl vy vd rl rh rc rt ta tk tv tr tg od := by
  intro d
  induction d with
  | zero =>
    intro i ei
    obtain rfl : i = 128 := by omega
    exact pk_le 128 128 (fun _ => h) (fun z => absurd z (by omega))
  | succ d ih =>
    intro i ei
    have ci : (nI i).toNatClampNeg = i := nI_clamp (by omega)
    exact pk_le 128 i (fun z => absurd z (by omega)) (fun _ => ⟨pk_in i 128 (by omega), nm_r (by rw [ci]; exact nb_fis nb_v i) (nm_r (nI_1 i) (ih (i + 1) (by omega)))⟩)
theorem nb_i207s (h : ∃ q, wX_init_236 pS (nI L) (nI wl) (nI (2 ^ wl)) (nI R) (nI T) (nI ov) (nI hc) (nI tn) (nI n) ac an q 0 (nb_fi nb_v 128) fl dy fd tree vl vy vd rl rh rc rt ta tk tv tr tg od) : ∃ q, wX_init_207 pS (nI L) (nI wl) (nI (2 ^ wl)) (nI R) (nI T) (nI ov) (nI hc) (nI tn) (nI n) ac an q 0 (fun _ => 0) fl dy fd tree vl vy vd rl rh rc rt ta tk tv tr tg od := by
  have k := nb_i207 h 128 0 rfl
  rw [nb_fi0] at k
  exact ⟨_, k⟩
end
section
variable {L R T n : Nat} {ac an : Int32} {word kept held od ql qr qw : Nat → Int32}
variable {pS : SY → Prop}
theorem nb_j158 (h : pS (nI L, nI R, nI T, nI n, ac, an, nb_fi nb_v 128, kept, held, od, ql, qr, qw)) : ∀ d i, i + d = 128 → wY_init_158 pS (nI L) (nI R) (nI T) (nI n) ac an (d + 1) (nI i) (nb_fi nb_v i) kept held od ql qr qw := by
  intro d
  induction d with
  | zero =>
    intro i ei
    obtain rfl : i = 128 := by omega
    exact pk_le 128 128 (fun _ => h) (fun z => absurd z (by omega))
  | succ d ih =>
    intro i ei
    have ci : (nI i).toNatClampNeg = i := nI_clamp (by omega)
    exact pk_le 128 i (fun z => absurd z (by omega)) (fun _ => ⟨pk_in i 128 (by omega), nm_r (by rw [ci]; exact nb_fis nb_v i) (nm_r (nI_1 i) (ih (i + 1) (by omega)))⟩)
theorem nb_j158s (h : pS (nI L, nI R, nI T, nI n, ac, an, nb_fi nb_v 128, kept, held, od, ql, qr, qw)) : ∃ q, wY_init_158 pS (nI L) (nI R) (nI T) (nI n) ac an q 0 (fun _ => 0) kept held od ql qr qw := by
  have k := nb_j158 h 128 0 rfl
  rw [nb_fi0] at k
  exact ⟨_, k⟩
end
theorem nb_RR0 {L wl R T : Nat} (hL4 : 4 ≤ L) (hL : L ≤ 32) (hw : wl ≤ 2) (hR2 : 2 ≤ R) (hR : R ≤ 8) (hT1 : 1 ≤ T) (hT : T ≤ 8) : nb_R L wl R T 0 0 0 0 (nb_fi nb_v 128) (nb_fi nb_m 8) (fun _ => 0) (fun _ => 0) (nb_fi nb_m 2) (fun _ => 0) (fun _ => 0) (nb_fi nb_m 8) (fun _ => 0) (fun _ => 0) (fun _ => 0) (nb_fi nb_m 16) (fun _ => 0) (fun _ => 0) (fun _ => 0) (nb_fi nb_m 16) (fun _ => 0) (nb_fi nb_v 128) (fun _ => 0) (fun _ => 0) (fun _ => 0) (fun _ => 0) (fun _ => 0) := by
  have f1 : ∀ f, f < 8 → nb_fi nb_m 8 f = -1 := fun f hf => nb_fin hf
  have v1 : ∀ f, f < 2 → nb_fi nb_m 2 f = -1 := fun f hf => nb_fin hf
  have r1 : ∀ f, f < R → nb_fi nb_m 8 f = -1 := fun f hf => nb_fin (by omega)
  have t1 : ∀ f, f < 16 → nb_fi nb_m 16 f = -1 := fun f hf => nb_fin hf
  have no : ∀ {x : Int32} {l : Nat}, l < L → x = -1 → x ≠ nI l := fun hl e y => nb_l1 hL hl (y.symm.trans e)
  refine ⟨⟨hL4, hL, hw, hR2, hR, hT1, hT, by omega, by omega, by omega⟩, nb_cn0 (fun k _ => by simp), (fun _ => 0), (fun _ => 0), ⟨nb_fi nb_v 128, ?_, ?_, ?_⟩, ?_⟩
  · refine ⟨fun f hf => Or.inl (f1 f hf), fun s hs => Or.inl (v1 s hs), fun r hr => Or.inl (r1 r hr), ?_, ?_, ?_, ?_, ?_, ?_⟩
    · exact fun f g l hf hg hl e => absurd e (no hl (f1 f hf))
    · exact fun f g l hf hg hl e => absurd e (no hl (v1 f hf))
    · exact fun f g l hf hg hl e => absurd e (no hl (r1 f hf))
    · exact fun f g l hf hg hl e => absurd e (no hl (f1 f hf))
    · exact fun f g l hf hg hl e => absurd e (no hl (f1 f hf))
    · exact fun f g l hf hg hl e => absurd e (no hl (v1 f hf))
  · refine ⟨?_, ?_, fun l k hl hF hV hk => rfl, fun f hf => Or.inl rfl, fun s hs => Or.inl rfl⟩
    · exact fun f l k hf hl e => absurd e (no hl (f1 f hf))
    · exact fun f l k hf hl e => absurd e (no hl (v1 f hf))
  · refine ⟨fun r hr => ⟨Or.inl rfl, fun _ => rfl⟩, ?_, fun l k hl hn hk => rfl, fun l hl hn => rfl, fun t ht => Or.inl (t1 t ht), fun t ht => Or.inl (t1 t ht), fun t ht e => absurd (t1 t ht) e, nb_cn0 (fun k _ => by simp)⟩
    exact fun r l hr hl e => absurd e (no hl (r1 r hr))
  · refine ⟨by omega, fun i hi => absurd hi (by omega), fun i j hi => absurd hi (by omega), fun t ht e => absurd (t1 t ht) e, nb_cn0 (fun k hk => ?_)⟩
    simp [t1 k hk]
theorem nb_wy {wl : Nat} (h : wl ≤ 2) : (1 : Int32) <<< (nI wl &&& 31) = nI (2 ^ wl) := by
  have : wl = 0 ∨ wl = 1 ∨ wl = 2 := by omega
  rcases this with rfl | rfl | rfl <;> decide
theorem i_vc0 (k0 : Int32) (k1 : Int32) (k2 : Int32) (k3 : Int32) : wpX_init (fun u => wpY_init (fun v => i_Rel 4 u v) k0 k1 k2 k3) k0 k1 k2 k3 := by
  obtain ⟨L, hL4, hL, eL⟩ := nb_klN k0 (lo := 4) (hi := 32) (by decide) (by decide)
  obtain ⟨wl, _, hw, ew⟩ := nb_klN k1 (lo := 0) (hi := 2) (by decide) (by decide)
  obtain ⟨R, hR2, hR, eR⟩ := nb_klN k2 (lo := 2) (hi := 8) (by decide) (by decide)
  obtain ⟨T, hT1, hT, eT⟩ := nb_klN k3 (lo := 1) (hi := 8) (by decide) (by decide)
  unfold wpX_init
  refine nb_xc eL (nb_xc ew (nm_r (nb_wy hw) (nb_xc eR (nb_xc eT ?_))))
  refine nb_i207s (ov := 0) (hc := 0) (tn := 0) (n := 0) (nb_i236s (nb_i268s (nb_i291s ?_)))
  refine nb_kc (C := fun z => wY_init_99 (fun v => i_Rel 4 _ v) k2 k3 z 0 0 0 0 0 0 (fun _ => 0) (fun _ => 0) (fun _ => 0) (fun _ => 0) (fun _ => 0) (fun _ => 0) (fun _ => 0)) eL ?_
  refine nb_kc (C := fun z => wY_init_124 (fun v => i_Rel 4 _ v) k3 z (nI L) 0 0 0 0 0 (fun _ => 0) (fun _ => 0) (fun _ => 0) (fun _ => 0) (fun _ => 0) (fun _ => 0) (fun _ => 0)) eR ?_
  refine nb_kc (C := fun z => ∃ q, wY_init_158 (fun v => i_Rel 4 _ v) (nI L) (nI R) z 0 0 0 q 0 (fun _ => 0) (fun _ => 0) (fun _ => 0) (fun _ => 0) (fun _ => 0) (fun _ => 0) (fun _ => 0)) eT ?_
  exact nb_j158s (n := 0) (nb_mk (nb_RR0 hL4 hL hw hR2 hR hT1 hT))
end
