section
section GA
theorem pk_us {f : Nat → Int32} {k : Nat} {x : Int32} : upd f k x k = x := if_pos rfl
theorem pk_un {f : Nat → Int32} {k j : Nat} {x : Int32} (h : j ≠ k) : upd f k x j = f j := if_neg h
theorem pk_sub {a b : Nat} (h : b ≤ a) : nI a - nI b = nI (a - b) := by
  obtain ⟨c, rfl⟩ : ∃ c, a = c + b := ⟨a - b, by omega⟩
  rw [← nI_add, Int32.add_sub_cancel, Nat.add_sub_cancel]
theorem pk_m1 (n : Nat) : nI (n + 1) + (-1) = nI n := by
  rw [← nI_1, Int32.add_assoc, show (1 : Int32) + (-1) = 0 from rfl, Int32.add_zero]
theorem pk_mul (a b : Nat) : nI a * nI b = nI (a * b) := (Int32.ofNat_mul a b).symm
theorem pk_div {a d : Nat} (ha : a < 2 ^ 31) (h0 : 0 < d) (hd : d < 2 ^ 31) : nI a / nI d = nI (a / d) := by
  apply Int32.toInt_inj.mp
  rw [lg_idiv_nonneg (by rw [nI_toInt ha]; omega) (by rw [nI_toInt hd]; omega), nI_toInt ha, nI_toInt hd, nI_toInt (Nat.lt_of_le_of_lt (Nat.div_le_self a d) ha)]
  first | rfl | exact (Int.natCast_ediv _ _).symm
theorem pk_sub_toInt {a b : Nat} (ha : a < 2 ^ 30) (hb : b < 2 ^ 30) : (nI a - nI b).toInt = (a : Int) - b := by
  rw [Int32.toInt_sub, nI_toInt (by omega), nI_toInt (by omega)]
  exact Int.bmod_eq_of_le (by omega) (by omega)
theorem pk_sneg {a b : Nat} (hb : b < 2 ^ 30) (h : a < b) : nI a - nI b < 0 := by
  rw [Int32.lt_iff_toInt_lt, pk_sub_toInt (by omega) hb, show (0 : Int32).toInt = 0 from by decide]
  omega
theorem pk_ix (x : Int32) {n : Nat} (hn : n < 2 ^ 31) : x < 0 ∨ nI n ≤ x ∨ ∃ j : Nat, j < n ∧ x = nI j := by
  by_cases h : x < 0
  · exact Or.inl h
  · obtain ⟨j, hj, rfl⟩ := nI_of h
    by_cases h2 : j < n
    · exact Or.inr (Or.inr ⟨j, h2, rfl⟩)
    · exact Or.inr (Or.inl (nI_le (by omega) hj))
theorem pk_le {x y : Int32} {A B : Prop} (a b : Nat) (f : a ≤ b → A) (g : b < a → B) (hx : x = nI a := by rfl) (hy : y = nI b := by rfl) (ha : a < 2 ^ 31 := by omega) (hb : b < 2 ^ 31 := by omega) : (x ≤ y → A) ∧ (¬ x ≤ y → B) := by
  subst hx hy
  rw [nI_leI ha hb]
  exact ⟨f, fun z => g (by omega)⟩
theorem pk_lt {x y : Int32} {A B : Prop} (a b : Nat) (f : a < b → A) (g : b ≤ a → B) (hx : x = nI a := by rfl) (hy : y = nI b := by rfl) (ha : a < 2 ^ 31 := by omega) (hb : b < 2 ^ 31 := by omega) : (x < y → A) ∧ (¬ x < y → B) := by
  subst hx hy
  rw [nI_ltI ha hb]
  exact ⟨f, fun z => g (by omega)⟩
theorem pk_eq {x y : Int32} {A B : Prop} (a b : Nat) (f : a = b → A) (g : a ≠ b → B) (hx : x = nI a := by rfl) (hy : y = nI b := by rfl) (ha : a < 2 ^ 31 := by omega) (hb : b < 2 ^ 31 := by omega) : (x = y → A) ∧ (¬ x = y → B) := by
  subst hx hy
  rw [nI_eq ha hb]
  exact ⟨f, g⟩
theorem pk_in {x : Int32} (n N : Nat) (h : n < N) (hx : x = nI n := by rfl) (hN : N < 2 ^ 31 := by omega) : vp_in x N := by
  subst hx
  exact vp_in_nI h hN
theorem pk_cl {x : Int32} (n : Nat) (hx : x = nI n := by rfl) (h : n < 2 ^ 31 := by omega) : x.toNatClampNeg = n := by
  subst hx
  exact nI_clamp h
/-! numbers of this claim -/
theorem ga_m {n : Nat} (h : 0 < n) : nI n + (-1) = nI (n - 1) := by
  obtain ⟨m, rfl⟩ : ∃ m, n = m + 1 := ⟨n - 1, by omega⟩
  exact pk_m1 m
theorem ga_s {n : Nat} (h : 0 < n) : nI n - 1 = nI (n - 1) := by
  obtain ⟨m, rfl⟩ : ∃ m, n = m + 1 := ⟨n - 1, by omega⟩
  exact nI_pred m
theorem ga_x4 (a : Nat) : nI a * 4 = nI (a * 4) := pk_mul a 4
theorem ga_x24 (a : Nat) : nI a * 24 = nI (a * 24) := pk_mul a 24
theorem ga_a192 (a : Nat) : 192 + nI a = nI (192 + a) := nI_add 192 a
theorem ga_inj {a b : Nat} (h : nI a = nI b) (ha : a < 2 ^ 31) (hb : b < 2 ^ 31) : a = b := (nI_eq ha hb).mp h
theorem ga_vb0 : vp_nar .boolean 0 = 0 := by decide
theorem ga_vb1 : vp_nar .boolean 1 = 1 := by decide
theorem ga_n1 {a : Nat} (h : a < 2 ^ 31) : ¬ nI a = -1 := by
  intro e
  have := nI_pos (n := a) h
  rw [e] at this
  exact this (by decide)
theorem ga_in {n N : Nat} (h : n < N) (hN : N < 2 ^ 31 := by omega) : vp_in (nI n) N := vp_in_nI h hN
theorem ga_ne {a b : Nat} (h : a ≠ b) (ha : a < 2 ^ 31) (hb : b < 2 ^ 31) : ¬ nI a = nI b := fun e => h ((nI_eq ha hb).mp e)
theorem ga_1a (a : Nat) : nI a - nI 1 + 1 = nI a := by
  show nI a - 1 + 1 = nI a
  exact Int32.sub_add_cancel _ _
theorem ga_m1neg : (0 : Int32) - 1 < 0 := by decide
theorem ga_m1neg' : (0 : Int32) + (-1) < 0 := by decide
theorem ga_eqm {P : Int32 → Prop} {x y : Int32} (e : x = y) (h : P y) : P x := e ▸ h
end GA
end
section
section GT
/-- how many expressions a token takes -/
def gt_tk (k : Int32) : Nat := if 4 < k then (if k = 11 then 3 else 2) else 0
/-- how many expressions the first i tokens of the row at B make -/
def gt_ct (kd : Nat → Int32) (B : Nat) : Nat → Nat
  | 0 => 0
  | i + 1 => gt_ct kd B i + 1 - gt_tk (kd (B + i))
def gt_Sp (kd sp : Nat → Int32) (B i s : Nat) : Prop :=
  sp (B + i) = nI s ∧ 1 ≤ s ∧ s ≤ i + 1 ∧ gt_ct kd B (i + 1 - s) + 1 = gt_ct kd B (i + 1) ∧ ∀ j, i + 1 < j + s → j ≤ i → gt_ct kd B (i + 1) ≤ gt_ct kd B j
def gt_Tok (kd vl sp : Nat → Int32) (B ar lc df i : Nat) : Prop :=
  (∃ k, 1 ≤ k ∧ k ≤ 11 ∧ kd (B + i) = nI k) ∧ gt_tk (kd (B + i)) ≤ gt_ct kd B i ∧
  (kd (B + i) = 2 → ∃ a, a < ar ∧ vl (B + i) = nI a) ∧ (kd (B + i) = 3 → ∃ a, a < lc ∧ vl (B + i) = nI a) ∧
  (kd (B + i) = 4 → ∃ a, a < df ∧ vl (B + i) = nI a) ∧ ∃ s, gt_Sp kd sp B i s
def gt_Row (kd vl sp : Nat → Int32) (B n ar lc df : Nat) : Prop := ∀ i, i < n → gt_Tok kd vl sp B ar lc df i
/-- the span's loop: j expressions taken, s tokens -/
def gt_AP (kd : Nat → Int32) (B n j s : Nat) : Prop :=
  1 ≤ s ∧ s ≤ n + 1 ∧ gt_ct kd B (n + 1 - s) + j = gt_ct kd B n ∧ ∀ q, n + 1 < q + s → q ≤ n → gt_ct kd B n + 1 ≤ gt_ct kd B q + j
/-- the last tokens of the expressions, backwards from p -/
def gt_rc (sp : Nat → Int32) (p : Nat) : Nat → Nat
  | 0 => p
  | j + 1 => gt_rc sp p j - (sp (gt_rc sp p j)).toNatClampNeg

theorem gt_ct_s (kd : Nat → Int32) (B i : Nat) : gt_ct kd B (i + 1) = gt_ct kd B i + 1 - gt_tk (kd (B + i)) := rfl
theorem gt_ct_cg {kd kd' : Nat → Int32} {B B' : Nat} : ∀ n, (∀ i, i < n → kd' (B' + i) = kd (B + i)) → gt_ct kd' B' n = gt_ct kd B n
  | 0, _ => rfl
  | n + 1, h => by
    rw [gt_ct_s, gt_ct_s, gt_ct_cg n (fun i hi => h i (by omega)), h n (by omega)]
theorem gt_Sp_cg {kd kd' sp sp' : Nat → Int32} {B B' i s : Nat} (hk : ∀ j, j ≤ i → kd' (B' + j) = kd (B + j)) (hs : sp' (B' + i) = sp (B + i)) (h : gt_Sp kd sp B i s) : gt_Sp kd' sp' B' i s := by
  have c : ∀ m, m ≤ i + 1 → gt_ct kd' B' m = gt_ct kd B m := fun m hm => gt_ct_cg m (fun j hj => hk j (by omega))
  obtain ⟨h1, h2, h3, h4, h5⟩ := h
  refine ⟨hs.trans h1, h2, h3, ?_, ?_⟩
  · rw [c _ (by omega), c _ (by omega)]; exact h4
  · intro j hj hi
    rw [c _ (by omega), c _ (by omega)]; exact h5 j hj hi
theorem gt_Tok_cg {kd vl sp kd' vl' sp' : Nat → Int32} {B B' ar lc df i : Nat} (hk : ∀ j, j ≤ i → kd' (B' + j) = kd (B + j)) (hv : vl' (B' + i) = vl (B + i)) (hs : sp' (B' + i) = sp (B + i)) (h : gt_Tok kd vl sp B ar lc df i) : gt_Tok kd' vl' sp' B' ar lc df i := by
  have c : gt_ct kd' B' i = gt_ct kd B i := gt_ct_cg i (fun j hj => hk j (by omega))
  obtain ⟨h1, h2, h3, h4, h5, s, h6⟩ := h
  unfold gt_Tok
  rw [hk i (by omega), hv, c]
  exact ⟨h1, h2, h3, h4, h5, s, gt_Sp_cg hk hs h6⟩
theorem gt_Row_cg {kd vl sp kd' vl' sp' : Nat → Int32} {B B' n ar lc df : Nat} (hk : ∀ j, j < n → kd' (B' + j) = kd (B + j) ∧ vl' (B' + j) = vl (B + j) ∧ sp' (B' + j) = sp (B + j)) (h : gt_Row kd vl sp B n ar lc df) : gt_Row kd' vl' sp' B' n ar lc df :=
  fun i hi => gt_Tok_cg (fun j hj => (hk j (by omega)).1) (hk i hi).2.1 (hk i hi).2.2 (h i hi)

section R
variable {kd vl sp : Nat → Int32} {B n ar lc df : Nat}
theorem gt_pos (h : gt_Row kd vl sp B n ar lc df) {i : Nat} (h1 : 1 ≤ i) (hn : i ≤ n) : 1 ≤ gt_ct kd B i := by
  obtain ⟨j, rfl⟩ : ∃ j, i = j + 1 := ⟨i - 1, by omega⟩
  have := (h j (by omega)).2.1
  rw [gt_ct_s]; omega
theorem gt_pos' {i : Nat} (h : 1 ≤ gt_ct kd B i) : 1 ≤ i := by
  cases i with
  | zero => exact absurd h (by show ¬ 1 ≤ 0; omega)
  | succ i => omega
theorem gt_chl (h : gt_Row kd vl sp B n ar lc df) {e : Nat} (h1 : 1 ≤ e) (hn : e ≤ n) : ∃ s, sp (B + (e - 1)) = nI s ∧ 1 ≤ s ∧ s ≤ e ∧ gt_ct kd B (e - s) + 1 = gt_ct kd B e ∧ ∀ j, e < j + s → j < e → gt_ct kd B e ≤ gt_ct kd B j := by
  obtain ⟨i, rfl⟩ : ∃ i, e = i + 1 := ⟨e - 1, by omega⟩
  obtain ⟨_, _, _, _, _, s, h1, h2, h3, h4, h5⟩ := h i (by omega)
  exact ⟨s, h1, h2, h3, h4, fun j hj hi => h5 j hj (by omega)⟩
theorem gt_prev (h : gt_Row kd vl sp B n ar lc df) {e : Nat} (h2 : 2 ≤ gt_ct kd B e) (hn : e ≤ n) : ∃ s, sp (B + (e - 1)) = nI s ∧ 1 ≤ s ∧ s < e ∧ gt_ct kd B (e - s) + 1 = gt_ct kd B e := by
  obtain ⟨s, a, b, c, d, _⟩ := gt_chl h (gt_pos' (kd := kd) (B := B) (by omega)) hn
  have := gt_pos' (kd := kd) (B := B) (i := e - s) (by omega)
  exact ⟨s, a, b, by omega, d⟩
theorem gt_AP0 : gt_AP kd B n 0 1 :=
  ⟨Nat.le_refl 1, by omega, by show gt_ct kd B (n + 1 - 1) + 0 = _; rw [Nat.add_sub_cancel]; rfl, fun q h1 h2 => absurd h1 (by omega)⟩
theorem gt_APs (h : gt_Row kd vl sp B n ar lc df) {j s : Nat} (a : gt_AP kd B n j s) (hj : j < gt_ct kd B n) : s ≤ n ∧ ∃ r, sp (B + (n - s)) = nI r ∧ r ≤ n ∧ gt_AP kd B n (j + 1) (s + r) := by
  obtain ⟨a1, a2, a3, a4⟩ := a
  have e1 : 1 ≤ n + 1 - s := gt_pos' (kd := kd) (B := B) (by omega)
  obtain ⟨r, r1, r2, r3, r4, r5⟩ := gt_chl h e1 (by omega)
  refine ⟨by omega, r, ?_, by omega, by omega, by omega, ?_, ?_⟩
  · rw [← r1]; exact congrArg (fun z => sp (B + z)) (by omega)
  · rw [show n + 1 - (s + r) = n + 1 - s - r from by omega]; omega
  · intro q q1 q2
    by_cases g : n + 1 < q + s
    · have := a4 q g q2; omega
    · by_cases g2 : q = n + 1 - s
      · subst g2; omega
      · have := r5 q (by omega) (by omega); omega
theorem gt_push (h : gt_Row kd vl sp B n ar lc df) {K V : Int32} {s : Nat} (hK : ∃ k, 1 ≤ k ∧ k ≤ 11 ∧ K = nI k) (ht : gt_tk K ≤ gt_ct kd B n)
    (h2 : K = 2 → ∃ a, a < ar ∧ V = nI a) (h3 : K = 3 → ∃ a, a < lc ∧ V = nI a) (h4 : K = 4 → ∃ a, a < df ∧ V = nI a) (a : gt_AP kd B n (gt_tk K) s) :
    gt_Row (upd kd (B + n) K) (upd vl (B + n) V) (upd sp (B + n) (nI s)) B (n + 1) ar lc df ∧ gt_ct (upd kd (B + n) K) B (n + 1) = gt_ct kd B n + 1 - gt_tk K := by
  have ck : ∀ j, j < n → upd kd (B + n) K (B + j) = kd (B + j) := fun j hj => pk_un (by omega)
  have cc : ∀ m, m ≤ n → gt_ct (upd kd (B + n) K) B m = gt_ct kd B m := fun m hm => gt_ct_cg m (fun j hj => ck j (by omega))
  have cn : gt_ct (upd kd (B + n) K) B (n + 1) = gt_ct kd B n + 1 - gt_tk K := by
    rw [gt_ct_s, cc n (by omega), pk_us]
  refine ⟨fun i hi => ?_, cn⟩
  by_cases g : i < n
  · exact gt_Tok_cg (fun j hj => ck j (by omega)) (pk_un (by omega)) (pk_un (by omega)) (h i g)
  · obtain rfl : i = n := by omega
    obtain ⟨a1, a2, a3, a4⟩ := a
    unfold gt_Tok
    rw [pk_us, pk_us, cc _ (Nat.le_refl _)]
    refine ⟨hK, ht, h2, h3, h4, s, pk_us, a1, a2, ?_, ?_⟩
    · rw [cn, cc _ (by omega)]; omega
    · intro j hj hi2
      have := a4 j hj hi2
      rw [cn, cc _ (by omega)]; omega
theorem gt_roots (h : gt_Row kd vl sp B n ar lc df) (hn : n ≤ 24) {l : Nat} (hc : gt_ct kd B n = l + 1) : ∀ j, j ≤ l → B ≤ gt_rc sp (B + n - 1) j ∧ gt_rc sp (B + n - 1) j < B + n ∧ gt_ct kd B (gt_rc sp (B + n - 1) j - B + 1) + j = l + 1
  | 0, _ => by
    have := gt_pos' (kd := kd) (B := B) (i := n) (by omega)
    have e : B + n - 1 - B + 1 = n := by omega
    show B ≤ B + n - 1 ∧ B + n - 1 < B + n ∧ gt_ct kd B (B + n - 1 - B + 1) + 0 = l + 1
    rw [e]
    exact ⟨by omega, by omega, by omega⟩
  | j + 1, hj => by
    obtain ⟨i1, i2, i3⟩ := gt_roots h hn hc j (by omega)
    generalize hp : gt_rc sp (B + n - 1) j = p at i1 i2 i3
    obtain ⟨s, s1, s2, s3, s4⟩ := gt_prev h (e := p - B + 1) (by omega) (by omega)
    have e : B + (p - B + 1 - 1) = p := by omega
    rw [e] at s1
    show B ≤ gt_rc sp (B + n - 1) j - (sp (gt_rc sp (B + n - 1) j)).toNatClampNeg ∧ gt_rc sp (B + n - 1) j - (sp (gt_rc sp (B + n - 1) j)).toNatClampNeg < B + n ∧ gt_ct kd B (gt_rc sp (B + n - 1) j - (sp (gt_rc sp (B + n - 1) j)).toNatClampNeg - B + 1) + (j + 1) = l + 1
    rw [hp, s1, nI_clamp (by omega), show p - s - B + 1 = p - B + 1 - s from by omega]
    exact ⟨by omega, by omega, by omega⟩
theorem gt_rcs (h : gt_Row kd vl sp B n ar lc df) (hn : n ≤ 24) {l : Nat} (hc : gt_ct kd B n = l + 1) {j : Nat} (hj : j < l) : ∃ s, sp (gt_rc sp (B + n - 1) j) = nI s ∧ 1 ≤ s ∧ s ≤ gt_rc sp (B + n - 1) j ∧ gt_rc sp (B + n - 1) (j + 1) = gt_rc sp (B + n - 1) j - s := by
  obtain ⟨i1, i2, i3⟩ := gt_roots h hn hc j (by omega)
  have e0 : gt_rc sp (B + n - 1) (j + 1) = gt_rc sp (B + n - 1) j - (sp (gt_rc sp (B + n - 1) j)).toNatClampNeg := rfl
  rw [e0]
  generalize hp : gt_rc sp (B + n - 1) j = p at i1 i2 i3
  obtain ⟨s, s1, s2, s3, s4⟩ := gt_prev h (e := p - B + 1) (by omega) (by omega)
  have e : B + (p - B + 1 - 1) = p := by omega
  rw [e] at s1
  exact ⟨s, s1, s2, by omega, by rw [s1, nI_clamp (by omega)]⟩
end R
theorem gt_rc_cg {sp sp' : Nat → Int32} {p B : Nat} (l : Nat) (h : ∀ j, j ≤ l → B ≤ gt_rc sp p j) (hb : ∀ q, B ≤ q → q ≤ p → sp' q = sp q) : ∀ j, j ≤ l → gt_rc sp' p j = gt_rc sp p j ∧ gt_rc sp p j ≤ p
  | 0, _ => ⟨rfl, Nat.le_refl _⟩
  | j + 1, hj => by
    obtain ⟨i1, i2⟩ := gt_rc_cg l h hb j (by omega)
    have e1 : gt_rc sp p (j + 1) = gt_rc sp p j - (sp (gt_rc sp p j)).toNatClampNeg := rfl
    have e2 : gt_rc sp' p (j + 1) = gt_rc sp' p j - (sp' (gt_rc sp' p j)).toNatClampNeg := rfl
    rw [e2, i1, hb _ (h j (by omega)) i2, e1]
    exact ⟨rfl, by omega⟩
theorem gt_tk_0 {k : Int32} (h : ¬ 4 < k) : gt_tk k = 0 := if_neg h
theorem gt_tk_n : ∀ k, k ≤ 11 → gt_tk (nI k) = if k ≤ 4 then 0 else if k = 11 then 3 else 2 := by decide
theorem gt_tk_le (k : Int32) : gt_tk k ≤ 3 := by
  unfold gt_tk; split
  · split <;> omega
  · omega
end GT
end
section
section GL
theorem gl_am1 (x : Int32) : x + (-1) = x - 1 := (Int32.sub_eq_add_neg x 1).symm
theorem gl_ct_le (kd : Nat → Int32) (B : Nat) : ∀ i, gt_ct kd B i ≤ i
  | 0 => Nat.le_refl 0
  | i + 1 => by have := gl_ct_le kd B i; rw [gt_ct_s]; omega
/-- the draft copied to T: i tokens so far -/
def gl_cp (a : Nat → Int32) (T i : Nat) : Nat → Int32 := fun q => if T ≤ q ∧ q < T + i then a (192 + (q - T)) else a q
theorem gl_cp0 (a : Nat → Int32) (T : Nat) : gl_cp a T 0 = a := by
  funext q
  exact if_neg (by omega)
theorem gl_cps (a : Nat → Int32) {T i : Nat} (hT : T + 24 ≤ 192) (hi : i < 24) : upd (gl_cp a T i) (T + i) (gl_cp a T i (192 + i)) = gl_cp a T (i + 1) := by
  funext q
  have e : gl_cp a T i (192 + i) = a (192 + i) := if_neg (by omega)
  rw [e]
  by_cases h : q = T + i
  · subst h
    rw [pk_us]
    show _ = if T ≤ T + i ∧ T + i < T + (i + 1) then a (192 + (T + i - T)) else a (T + i)
    rw [if_pos (by omega)]
    exact congrArg a (by omega)
  · rw [pk_un h]
    show (if T ≤ q ∧ q < T + i then a (192 + (q - T)) else a q) = if T ≤ q ∧ q < T + (i + 1) then a (192 + (q - T)) else a q
    by_cases g : T ≤ q ∧ q < T + i
    · rw [if_pos g, if_pos (by omega)]
    · rw [if_neg g, if_neg (by omega)]
theorem gl_cp_in {a : Nat → Int32} {T n j : Nat} (h : j < n) : gl_cp a T n (T + j) = a (192 + j) := by
  show (if T ≤ T + j ∧ T + j < T + n then a (192 + (T + j - T)) else a (T + j)) = _
  rw [if_pos (by omega)]
  exact congrArg a (by omega)
theorem gl_cp_out {a : Nat → Int32} {T n q : Nat} (h : ¬ (T ≤ q ∧ q < T + n)) : gl_cp a T n q = a q := if_neg h

section Y
variable {f_defs f_maxTokens f_depth f_maxPrice f_limitNow f_draftTarget f_lastResult f_lastPrice f_lastPeak f_items f_frames f_paid f_high f_ending f_outcome f_giving f_value f_expr f_frame : Int32} {a_kind a_val a_there a_sizes a_arities a_localCounts a_itemSort a_itemA a_itemB a_itemFrame a_argExpr a_argFrame : Nat → Int32}
theorem gl_takes {post : Int32 → Prop} {k : Int32} (h : post (nI (gt_tk k))) : wpY_takes post (f_defs, f_maxTokens, f_depth, f_maxPrice, f_limitNow, f_draftTarget, f_lastResult, f_lastPrice, f_lastPeak, f_items, f_frames, f_paid, f_high, f_ending, f_outcome, f_giving, f_value, f_expr, f_frame, a_kind, a_val, a_there, a_sizes, a_arities, a_localCounts, a_itemSort, a_itemA, a_itemB, a_itemFrame, a_argExpr, a_argFrame) k := by
  unfold gt_tk at h
  by_cases h4 : 4 < k
  · rw [if_pos h4] at h
    by_cases h11 : k = 11
    · rw [if_pos h11] at h
      exact br_t h4 (br_t h11 h)
    · rw [if_neg h11] at h
      exact br_t h4 (br_f h11 h)
  · rw [if_neg h4] at h
    exact br_f h4 h
theorem gl_made_l {post : Int32 → Prop} {vl sp : Nat → Int32} {n ar lc df : Nat} (hz : a_sizes 8 = nI n) (hn : n ≤ 24) (hr : gt_Row a_kind vl sp 192 n ar lc df) (h : post (nI (gt_ct a_kind 192 n))) :
    ∀ d i, i + d = n → wY_made_4 post f_defs f_maxTokens f_depth f_maxPrice f_limitNow f_draftTarget f_lastResult f_lastPrice f_lastPeak f_items f_frames f_paid f_high f_ending f_outcome f_giving f_value f_expr f_frame a_kind a_val a_there a_sizes a_arities a_localCounts a_itemSort a_itemA a_itemB a_itemFrame a_argExpr a_argFrame (d + 1) (nI (gt_ct a_kind 192 i)) (nI i)
  | 0, i, e => by
    obtain rfl : i = n := e
    have c : a_sizes 8 ≤ nI i := by rw [hz]; exact Int32.le_refl _
    exact br_t c h
  | d + 1, i, e => by
    have c : ¬ a_sizes 8 ≤ nI i := by rw [hz]; exact nI_ge (by omega) (by omega)
    have ht := (hr i (by omega)).2.1
    have e1 : (192 + nI i).toNatClampNeg = 192 + i := pk_cl _ (ga_a192 i)
    refine br_f c ⟨pk_in (192 + i) 240 (by omega) (ga_a192 i), ?_⟩
    rw [e1]
    refine gl_takes ?_
    have e2 : nI (gt_ct a_kind 192 i) - nI (gt_tk (a_kind (192 + i))) + 1 = nI (gt_ct a_kind 192 (i + 1)) := by
      rw [gt_ct_s, pk_sub ht, nI_1]; exact congrArg nI (by omega)
    exact nm_r e2 (nm_r (nI_1 i) (gl_made_l hz hn hr h d (i + 1) (by omega)))
theorem gl_made {post : Int32 → Prop} {vl sp : Nat → Int32} {n ar lc df : Nat} (hz : a_sizes 8 = nI n) (hn : n ≤ 24) (hr : gt_Row a_kind vl sp 192 n ar lc df) (h : post (nI (gt_ct a_kind 192 n))) : wpY_made post (f_defs, f_maxTokens, f_depth, f_maxPrice, f_limitNow, f_draftTarget, f_lastResult, f_lastPrice, f_lastPeak, f_items, f_frames, f_paid, f_high, f_ending, f_outcome, f_giving, f_value, f_expr, f_frame, a_kind, a_val, a_there, a_sizes, a_arities, a_localCounts, a_itemSort, a_itemA, a_itemB, a_itemFrame, a_argExpr, a_argFrame) :=
  ⟨n + 1, gl_made_l hz hn hr h n 0 (by omega)⟩
theorem gl_before_l {post : Int32 → Prop} {vl sp : Nat → Int32} {B n i s ar lc df : Nat} (hr : gt_Row a_kind vl sp B n ar lc df) (hi : i < n) (hn : n ≤ 24) (hB : B + 24 ≤ 240) (hs : gt_Sp a_kind sp B i s) (h1 : s ≤ B + i) (h : post (nI (B + i - s))) :
    ∀ d t, t + d = s → wY_before_7 post f_defs f_maxTokens f_depth f_maxPrice f_limitNow f_draftTarget f_lastResult f_lastPrice f_lastPeak f_items f_frames f_paid f_high f_ending f_outcome f_giving f_value f_expr f_frame a_kind a_val a_there a_sizes a_arities a_localCounts a_itemSort a_itemA a_itemB a_itemFrame a_argExpr a_argFrame (d + 1) (nI (gt_ct a_kind B (i + 1 - t) + 1 - gt_ct a_kind B (i + 1))) (nI (B + i - t)) (nI t)
  | 0, t, e => by
    obtain rfl : t = s := e
    obtain ⟨s1, s2, s3, s4, s5⟩ := hs
    have z : gt_ct a_kind B (i + 1 - t) + 1 - gt_ct a_kind B (i + 1) = 0 := by omega
    rw [z]
    by_cases g : 24 ≤ t
    · have c : (24 : Int32) ≤ nI t := nI_le (a := 24) g (by omega)
      exact br_t c h
    · have c : ¬ (24 : Int32) ≤ nI t := nI_ge (b := 24) (by omega) (by omega)
      have c2 : nI 0 ≤ (0 : Int32) := Int32.le_refl _
      exact br_f c (br_t c2 h)
  | d + 1, t, e => by
    obtain ⟨s1, s2, s3, s4, s5⟩ := id hs
    have c : ¬ (24 : Int32) ≤ nI t := nI_ge (b := 24) (by omega) (by omega)
    have ge : gt_ct a_kind B (i + 1) ≤ gt_ct a_kind B (i + 1 - t) := by
      by_cases t0 : t = 0
      · subst t0; exact Nat.le_refl _
      · exact s5 _ (by omega) (by omega)
    have l1 := gl_ct_le a_kind B (i + 1 - t)
    have c2 : ¬ nI (gt_ct a_kind B (i + 1 - t) + 1 - gt_ct a_kind B (i + 1)) ≤ 0 := nI_nle (by omega) (by omega)
    have c3 : ¬ nI (B + i - t) < 0 := nI_pos (by omega)
    refine br_f c (br_f c2 (br_f c3 ⟨ga_in (by omega), ?_⟩))
    rw [nI_clamp (by omega)]
    refine gl_takes ?_
    have ht := (hr (i - t) (by omega)).2.1
    have e0 : B + i - t = B + (i - t) := by omega
    have e1 : gt_ct a_kind B (i + 1 - t) = gt_ct a_kind B (i - t) + 1 - gt_tk (a_kind (B + (i - t))) := by
      rw [show i + 1 - t = i - t + 1 from by omega, gt_ct_s]
    have e2 : nI (gt_ct a_kind B (i + 1 - t) + 1 - gt_ct a_kind B (i + 1)) - 1 + nI (gt_tk (a_kind (B + i - t))) = nI (gt_ct a_kind B (i + 1 - (t + 1)) + 1 - gt_ct a_kind B (i + 1)) := by
      rw [ga_s (by omega), nI_add, e0, show i + 1 - (t + 1) = i - t from by omega]
      exact congrArg nI (by omega)
    have e3 : nI (B + i - t) + (-1) = nI (B + i - (t + 1)) := by
      rw [ga_m (by omega)]; exact congrArg nI (by omega)
    exact nm_r e2 (nm_r e3 (nm_r (nI_1 t) (gl_before_l hr hi hn hB hs h1 h d (t + 1) (by omega))))
theorem gl_before {post : Int32 → Prop} {vl sp : Nat → Int32} {B n i s ar lc df : Nat} (hr : gt_Row a_kind vl sp B n ar lc df) (hi : i < n) (hn : n ≤ 24) (hB : B + 24 ≤ 240) (hs : gt_Sp a_kind sp B i s) (h1 : s ≤ B + i) (h : post (nI (B + i - s))) : wpY_before post (f_defs, f_maxTokens, f_depth, f_maxPrice, f_limitNow, f_draftTarget, f_lastResult, f_lastPrice, f_lastPeak, f_items, f_frames, f_paid, f_high, f_ending, f_outcome, f_giving, f_value, f_expr, f_frame, a_kind, a_val, a_there, a_sizes, a_arities, a_localCounts, a_itemSort, a_itemA, a_itemB, a_itemFrame, a_argExpr, a_argFrame) (nI (B + i)) := by
  have e : (1 : Int32) = nI (gt_ct a_kind B (i + 1 - 0) + 1 - gt_ct a_kind B (i + 1)) := by
    rw [show gt_ct a_kind B (i + 1 - 0) + 1 - gt_ct a_kind B (i + 1) = 1 from by rw [Nat.sub_zero]; omega]; rfl
  refine ⟨s + 1, ?_⟩
  rw [e]
  exact gl_before_l hr hi hn hB hs h1 h s 0 (by omega)
theorem gl_end_l {post : Int32 → SY → Prop} {d n : Nat} (hd : d < 8) (hn : n ≤ 24) (hz : a_sizes 8 = nI n)
    (h : post (nI n) (f_defs, f_maxTokens, f_depth, f_maxPrice, f_limitNow, f_draftTarget, f_lastResult, f_lastPrice, f_lastPeak, f_items, f_frames, f_paid, f_high, f_ending, f_outcome, f_giving, f_value, f_expr, f_frame, gl_cp a_kind (24 * d) n, gl_cp a_val (24 * d) n, upd (upd a_there d 1) 8 0, upd a_sizes d (nI n), upd a_arities d (a_arities 8), upd a_localCounts d (a_localCounts 8), a_itemSort, a_itemA, a_itemB, a_itemFrame, a_argExpr, a_argFrame)) :
    ∀ r i, i + r = n → wY_end_39 post (nI d) f_defs f_maxTokens f_depth f_maxPrice f_limitNow f_draftTarget f_lastResult f_lastPrice f_lastPeak f_items f_frames f_paid f_high f_ending f_outcome f_giving f_value f_expr f_frame (r + 1) (nI i) (gl_cp a_kind (24 * d) i) (gl_cp a_val (24 * d) i) a_there a_sizes a_arities a_localCounts a_itemSort a_itemA a_itemB a_itemFrame a_argExpr a_argFrame
  | 0, i, e => by
    obtain rfl : i = n := e
    have c : a_sizes 8 ≤ nI i := by rw [hz]; exact Int32.le_refl _
    have vi : vp_in (nI d) 10 := ga_in (by omega)
    have cl : (nI d).toNatClampNeg = d := nI_clamp (by omega)
    refine br_t c ⟨vi, nm_r (e' := upd a_sizes d (nI i)) (by rw [cl, hz]) ⟨vi, nm_r (e' := upd a_arities d (a_arities 8)) (by rw [cl]) ⟨vi, nm_r (e' := upd a_localCounts d (a_localCounts 8)) (by rw [cl]) ⟨vi, nm_r (e' := upd a_there d 1) (by rw [cl, ga_vb1]) (nm_r (e' := upd (upd a_there d 1) 8 0) (by rw [ga_vb0]) ⟨vi, ?_⟩)⟩⟩⟩⟩
    rw [cl, pk_us]
    exact h
  | r + 1, i, e => by
    have c : ¬ a_sizes 8 ≤ nI i := by rw [hz]; exact nI_ge (by omega) (by omega)
    have v1 : vp_in (192 + nI i) 240 := pk_in (192 + i) 240 (by omega) (ga_a192 i)
    have x2 : nI d * 24 + nI i = nI (24 * d + i) := by rw [ga_x24, nI_add, Nat.mul_comm]
    have v2 : vp_in (nI d * 24 + nI i) 240 := pk_in (24 * d + i) 240 (by omega) x2
    have c1 : (192 + nI i).toNatClampNeg = 192 + i := pk_cl _ (ga_a192 i)
    have c2 : (nI d * 24 + nI i).toNatClampNeg = 24 * d + i := pk_cl _ x2
    refine br_f c ⟨v1, v2, nm_r (e' := gl_cp a_kind (24 * d) (i + 1)) (by rw [c1, c2]; exact gl_cps a_kind (by omega) (by omega)) ⟨v1, v2, nm_r (e' := gl_cp a_val (24 * d) (i + 1)) (by rw [c1, c2]; exact gl_cps a_val (by omega) (by omega)) (nm_r (nI_1 i) ?_)⟩⟩
    exact gl_end_l hd hn hz h r (i + 1) (by omega)
end Y

section X
variable {f_draftSlot f_slotTokens f_slotRoots f_itemArgument f_itemLeft f_itemRight f_itemChoice f_nodeFresh f_nodeBusy f_nodeNumber f_nodePartial f_modeRead f_modeDemand f_modeEnter f_modeGive f_placeNodes f_defs f_maxTokens f_depth f_maxPrice f_limit f_draftTarget f_draftMade f_result f_price f_peak f_outcome f_mode f_nowA f_nowB f_items f_marks f_high f_nodes f_frames : Int32} {a_slotUsed a_slotArity a_slotLocals a_slotSize a_tokenKind a_tokenValue a_tokenSpan a_roots a_itemSort a_itemA a_itemB a_markNode a_markPrice a_markBase a_markHigh a_nodeState a_nodeCode a_nodeExtra a_nodePrice a_nodeHeight a_nodeHeld a_frameArgs a_frameLocals : Nat → Int32}
theorem gl_append_l {post : Int32 → SX → Prop} {x1 x2 : Int32} {N t ar lc df : Nat} (hr : gt_Row a_tokenKind a_tokenValue a_tokenSpan 192 N ar lc df) (hN : N < 24) (ht : t ≤ gt_ct a_tokenKind 192 N)
    (h : ∀ s, gt_AP a_tokenKind 192 N t s → post (f_draftMade + (1 - nI t)) (f_draftSlot, f_slotTokens, f_slotRoots, f_itemArgument, f_itemLeft, f_itemRight, f_itemChoice, f_nodeFresh, f_nodeBusy, f_nodeNumber, f_nodePartial, f_modeRead, f_modeDemand, f_modeEnter, f_modeGive, f_placeNodes, f_defs, f_maxTokens, f_depth, f_maxPrice, f_limit, f_draftTarget, f_draftMade + (1 - nI t), f_result, f_price, f_peak, f_outcome, f_mode, f_nowA, f_nowB, f_items, f_marks, f_high, f_nodes, f_frames, a_slotUsed, a_slotArity, a_slotLocals, upd a_slotSize 8 (nI (N + 1)), upd a_tokenKind (192 + N) x1, upd a_tokenValue (192 + N) x2, upd a_tokenSpan (192 + N) (nI s), a_roots, a_itemSort, a_itemA, a_itemB, a_markNode, a_markPrice, a_markBase, a_markHigh, a_nodeState, a_nodeCode, a_nodeExtra, a_nodePrice, a_nodeHeight, a_nodeHeld, a_frameArgs, a_frameLocals)) :
    ∀ d j s, j + d = t → gt_AP a_tokenKind 192 N j s → wX_append_66 post x1 x2 (nI t) (nI N) (nI (192 + N)) f_draftSlot f_slotTokens f_slotRoots f_itemArgument f_itemLeft f_itemRight f_itemChoice f_nodeFresh f_nodeBusy f_nodeNumber f_nodePartial f_modeRead f_modeDemand f_modeEnter f_modeGive f_placeNodes f_defs f_maxTokens f_depth f_maxPrice f_limit f_draftTarget f_draftMade f_result f_price f_peak f_outcome f_mode f_nowA f_nowB f_items f_marks f_high f_nodes f_frames a_slotUsed a_slotArity a_slotLocals a_slotSize a_tokenKind a_tokenValue a_tokenSpan a_roots a_itemSort a_itemA a_itemB a_markNode a_markPrice a_markBase a_markHigh a_nodeState a_nodeCode a_nodeExtra a_nodePrice a_nodeHeight a_nodeHeld a_frameArgs a_frameLocals (d + 1) (nI s) (nI j)
  | 0, j, s, e, a => by
    obtain rfl : j = t := e
    have l1 := gl_ct_le a_tokenKind 192 N
    have c : nI j ≤ nI j := Int32.le_refl _
    have vi : vp_in (nI (192 + N)) 216 := ga_in (by omega)
    have cl : (nI (192 + N)).toNatClampNeg = 192 + N := nI_clamp (by omega)
    refine br_t c ⟨vi, nm_r (e' := upd a_tokenKind (192 + N) x1) (by rw [cl]) ⟨vi, nm_r (e' := upd a_tokenValue (192 + N) x2) (by rw [cl]) ⟨vi, nm_r (e' := upd a_tokenSpan (192 + N) (nI s)) (by rw [cl]) (nm_r (e' := upd a_slotSize 8 (nI (N + 1))) (by rw [nI_1]) (nm_e (h s a)))⟩⟩⟩
  | d + 1, j, s, e, a => by
    have l1 := gl_ct_le a_tokenKind 192 N
    have c : ¬ nI t ≤ nI j := nI_ge (by omega) (by omega)
    obtain ⟨b1, r, b2, b3, b4⟩ := gt_APs hr a (by omega)
    have x3 : nI (192 + N) - nI s = nI (192 + (N - s)) := by
      rw [pk_sub (by omega)]; exact congrArg nI (by omega)
    have c3 : (nI (192 + N) - nI s).toNatClampNeg = 192 + (N - s) := pk_cl _ x3
    refine br_f c ⟨pk_in _ 216 (by omega) x3, nm_r (e' := nI (s + r)) (by rw [c3, b2, nI_add]) (nm_r (nI_1 j) ?_)⟩
    exact gl_append_l hr hN ht h d (j + 1) (s + r) (by omega) b4
theorem gl_copy_l {post : SX → Prop} {d n : Nat} (hd : d < 8) (hn : n ≤ 24)
    (h : post (f_draftSlot, f_slotTokens, f_slotRoots, f_itemArgument, f_itemLeft, f_itemRight, f_itemChoice, f_nodeFresh, f_nodeBusy, f_nodeNumber, f_nodePartial, f_modeRead, f_modeDemand, f_modeEnter, f_modeGive, f_placeNodes, f_defs, f_maxTokens, f_depth, f_maxPrice, f_limit, f_draftTarget, f_draftMade, f_result, f_price, f_peak, f_outcome, f_mode, f_nowA, f_nowB, f_items, f_marks, f_high, f_nodes, f_frames, upd a_slotUsed d 1, upd a_slotArity d (a_slotArity 8), upd a_slotLocals d (a_slotLocals 8), upd a_slotSize d (nI n), gl_cp a_tokenKind (24 * d) n, gl_cp a_tokenValue (24 * d) n, gl_cp a_tokenSpan (24 * d) n, a_roots, a_itemSort, a_itemA, a_itemB, a_markNode, a_markPrice, a_markBase, a_markHigh, a_nodeState, a_nodeCode, a_nodeExtra, a_nodePrice, a_nodeHeight, a_nodeHeld, a_frameArgs, a_frameLocals)) :
    ∀ r i, i + r = n → wX_copyDraft_21 post (nI d) (nI n) 192 (nI (24 * d)) f_draftSlot f_slotTokens f_slotRoots f_itemArgument f_itemLeft f_itemRight f_itemChoice f_nodeFresh f_nodeBusy f_nodeNumber f_nodePartial f_modeRead f_modeDemand f_modeEnter f_modeGive f_placeNodes f_defs f_maxTokens f_depth f_maxPrice f_limit f_draftTarget f_draftMade f_result f_price f_peak f_outcome f_mode f_nowA f_nowB f_items f_marks f_high f_nodes f_frames (r + 1) (nI i) a_slotUsed a_slotArity a_slotLocals a_slotSize (gl_cp a_tokenKind (24 * d) i) (gl_cp a_tokenValue (24 * d) i) (gl_cp a_tokenSpan (24 * d) i) a_roots a_itemSort a_itemA a_itemB a_markNode a_markPrice a_markBase a_markHigh a_nodeState a_nodeCode a_nodeExtra a_nodePrice a_nodeHeight a_nodeHeld a_frameArgs a_frameLocals
  | 0, i, e => by
    obtain rfl : i = n := e
    have c : nI i ≤ nI i := Int32.le_refl _
    have vi : vp_in (nI d) 9 := ga_in (by omega)
    have cl : (nI d).toNatClampNeg = d := nI_clamp (by omega)
    exact br_t c ⟨vi, nm_r (e' := upd a_slotUsed d 1) (by rw [cl, ga_vb1]) ⟨vi, nm_r (e' := upd a_slotArity d (a_slotArity 8)) (by rw [cl]) ⟨vi, nm_r (e' := upd a_slotLocals d (a_slotLocals 8)) (by rw [cl]) ⟨vi, nm_r (e' := upd a_slotSize d (nI i)) (by rw [cl]) h⟩⟩⟩⟩
  | r + 1, i, e => by
    have c : ¬ nI n ≤ nI i := nI_ge (by omega) (by omega)
    have v1 : vp_in (192 + nI i) 216 := pk_in (192 + i) 216 (by omega) (ga_a192 i)
    have v2 : vp_in (nI (24 * d) + nI i) 216 := pk_in (24 * d + i) 216 (by omega) (nI_add _ _)
    have c1 : (192 + nI i).toNatClampNeg = 192 + i := pk_cl _ (ga_a192 i)
    have c2 : (nI (24 * d) + nI i).toNatClampNeg = 24 * d + i := pk_cl _ (nI_add _ _)
    refine br_f c ⟨v1, v2, nm_r (e' := gl_cp a_tokenKind (24 * d) (i + 1)) (by rw [c1, c2]; exact gl_cps a_tokenKind (by omega) (by omega)) ⟨v1, v2, nm_r (e' := gl_cp a_tokenValue (24 * d) (i + 1)) (by rw [c1, c2]; exact gl_cps a_tokenValue (by omega) (by omega)) ⟨v1, v2, nm_r (e' := gl_cp a_tokenSpan (24 * d) (i + 1)) (by rw [c1, c2]; exact gl_cps a_tokenSpan (by omega) (by omega)) (nm_r (nI_1 i) ?_)⟩⟩⟩
    exact gl_copy_l hd hn h r (i + 1) (by omega)
theorem gl_copy {post : SX → Prop} {d n : Nat} (hd : d < 8) (hn : n ≤ 24) (hz : a_slotSize 8 = nI n)
    (h : post (f_draftSlot, f_slotTokens, f_slotRoots, f_itemArgument, f_itemLeft, f_itemRight, f_itemChoice, f_nodeFresh, f_nodeBusy, f_nodeNumber, f_nodePartial, f_modeRead, f_modeDemand, f_modeEnter, f_modeGive, f_placeNodes, f_defs, f_maxTokens, f_depth, f_maxPrice, f_limit, f_draftTarget, f_draftMade, f_result, f_price, f_peak, f_outcome, f_mode, f_nowA, f_nowB, f_items, f_marks, f_high, f_nodes, f_frames, upd a_slotUsed d 1, upd a_slotArity d (a_slotArity 8), upd a_slotLocals d (a_slotLocals 8), upd a_slotSize d (nI n), gl_cp a_tokenKind (24 * d) n, gl_cp a_tokenValue (24 * d) n, gl_cp a_tokenSpan (24 * d) n, a_roots, a_itemSort, a_itemA, a_itemB, a_markNode, a_markPrice, a_markBase, a_markHigh, a_nodeState, a_nodeCode, a_nodeExtra, a_nodePrice, a_nodeHeight, a_nodeHeld, a_frameArgs, a_frameLocals)) : wpX_copyDraft post (f_draftSlot, f_slotTokens, f_slotRoots, f_itemArgument, f_itemLeft, f_itemRight, f_itemChoice, f_nodeFresh, f_nodeBusy, f_nodeNumber, f_nodePartial, f_modeRead, f_modeDemand, f_modeEnter, f_modeGive, f_placeNodes, f_defs, f_maxTokens, f_depth, f_maxPrice, f_limit, f_draftTarget, f_draftMade, f_result, f_price, f_peak, f_outcome, f_mode, f_nowA, f_nowB, f_items, f_marks, f_high, f_nodes, f_frames, a_slotUsed, a_slotArity, a_slotLocals, a_slotSize, a_tokenKind, a_tokenValue, a_tokenSpan, a_roots, a_itemSort, a_itemA, a_itemB, a_markNode, a_markPrice, a_markBase, a_markHigh, a_nodeState, a_nodeCode, a_nodeExtra, a_nodePrice, a_nodeHeight, a_nodeHeld, a_frameArgs, a_frameLocals) (nI d) := by
  refine nm_r hz (nm_r (e' := nI (24 * d)) (by rw [ga_x24, Nat.mul_comm]) ⟨n + 1, ?_⟩)
  have := gl_copy_l hd hn h n 0 (by omega)
  rw [gl_cp0, gl_cp0, gl_cp0] at this
  exact this
theorem gl_roots_l {post : SX → Prop} {d p l : Nat} (hd : d < 8) (hl : l ≤ 3)
    (hp : ∀ j, j < l → gt_rc a_tokenSpan p j < 216 ∧ ∃ s, a_tokenSpan (gt_rc a_tokenSpan p j) = nI s ∧ s ≤ gt_rc a_tokenSpan p j)
    (h : ∀ r' : Nat → Int32, (∀ i, i < l → r' (4 * d + i) = nI (gt_rc a_tokenSpan p (l - i))) → (∀ q, (q < 4 * d ∨ 4 * d + l ≤ q) → r' q = a_roots q) → post (f_draftSlot, f_slotTokens, f_slotRoots, f_itemArgument, f_itemLeft, f_itemRight, f_itemChoice, f_nodeFresh, f_nodeBusy, f_nodeNumber, f_nodePartial, f_modeRead, f_modeDemand, f_modeEnter, f_modeGive, f_placeNodes, f_defs, f_maxTokens, f_depth, f_maxPrice, f_limit, f_draftTarget, f_draftMade, f_result, f_price, f_peak, f_outcome, f_mode, f_nowA, f_nowB, f_items, f_marks, f_high, f_nodes, f_frames, a_slotUsed, a_slotArity, a_slotLocals, a_slotSize, a_tokenKind, a_tokenValue, a_tokenSpan, r', a_itemSort, a_itemA, a_itemB, a_markNode, a_markPrice, a_markBase, a_markHigh, a_nodeState, a_nodeCode, a_nodeExtra, a_nodePrice, a_nodeHeight, a_nodeHeld, a_frameArgs, a_frameLocals)) :
    ∀ m (r : Nat → Int32) (x2 x3 : Int32), m ≤ l → (∀ i, m ≤ i → i < l → r (4 * d + i) = nI (gt_rc a_tokenSpan p (l - i))) → (∀ q, (q < 4 * d ∨ 4 * d + l ≤ q) → r q = a_roots q) → x2 = nI (gt_rc a_tokenSpan p (l - m)) → x3 = nI m - 1 →
    wX_findRoots_34 post (nI d) f_draftSlot f_slotTokens f_slotRoots f_itemArgument f_itemLeft f_itemRight f_itemChoice f_nodeFresh f_nodeBusy f_nodeNumber f_nodePartial f_modeRead f_modeDemand f_modeEnter f_modeGive f_placeNodes f_defs f_maxTokens f_depth f_maxPrice f_limit f_draftTarget f_draftMade f_result f_price f_peak f_outcome f_mode f_nowA f_nowB f_items f_marks f_high f_nodes f_frames (m + 1) x2 x3 a_slotUsed a_slotArity a_slotLocals a_slotSize a_tokenKind a_tokenValue a_tokenSpan r a_itemSort a_itemA a_itemB a_markNode a_markPrice a_markBase a_markHigh a_nodeState a_nodeCode a_nodeExtra a_nodePrice a_nodeHeight a_nodeHeld a_frameArgs a_frameLocals
  | 0, r, x2, x3, _, h1, h2, e2, e3 => by
    subst e3
    exact br_t ga_m1neg (h r (fun i hi => h1 i (by omega) hi) h2)
  | m + 1, r, x2, x3, hm, h1, h2, e2, e3 => by
    obtain ⟨p1, s, p2, p3⟩ := hp (l - (m + 1)) (by omega)
    rw [nI_pred] at e3
    subst e2 e3
    have c : ¬ nI m < 0 := nI_pos (by omega)
    have cl : (nI (gt_rc a_tokenSpan p (l - (m + 1)))).toNatClampNeg = gt_rc a_tokenSpan p (l - (m + 1)) := nI_clamp (by omega)
    have e4 : nI (gt_rc a_tokenSpan p (l - (m + 1))) - a_tokenSpan (nI (gt_rc a_tokenSpan p (l - (m + 1)))).toNatClampNeg = nI (gt_rc a_tokenSpan p (l - m)) := by
      rw [cl, p2, pk_sub p3]
      have e5 : gt_rc a_tokenSpan p (l - m) = gt_rc a_tokenSpan p (l - (m + 1)) - (a_tokenSpan (gt_rc a_tokenSpan p (l - (m + 1)))).toNatClampNeg := by
        rw [show l - m = l - (m + 1) + 1 from by omega]; rfl
      rw [e5, p2, nI_clamp (by omega)]
    have x4 : nI d * 4 + nI m = nI (4 * d + m) := by rw [ga_x4, nI_add, Nat.mul_comm]
    have c4 : (nI d * 4 + nI m).toNatClampNeg = 4 * d + m := pk_cl _ x4
    refine br_f c ⟨ga_in p1, nm_r e4 ⟨pk_in _ 36 (by omega) x4, nm_r (e' := upd r (4 * d + m) (nI (gt_rc a_tokenSpan p (l - m)))) (by rw [c4]) (nm_e ?_)⟩⟩
    refine gl_roots_l hd hl hp h m _ _ _ (by omega) ?_ ?_ rfl (gl_am1 _)
    · intro i hi1 hi2
      by_cases g : i = m
      · subst g; exact pk_us
      · rw [pk_un (by omega)]; exact h1 i (by omega) hi2
    · intro q hq
      rw [pk_un (by omega)]; exact h2 q hq
theorem gl_roots {post : SX → Prop} {d n l : Nat} (hd : d < 8) (hl : l ≤ 3) (hn : n ≤ 24) (h1 : 1 ≤ n) (hz : a_slotSize d = nI n) (hc : a_slotLocals d = nI l)
    (hp : ∀ j, j < l → gt_rc a_tokenSpan (24 * d + n - 1) j < 216 ∧ ∃ s, a_tokenSpan (gt_rc a_tokenSpan (24 * d + n - 1) j) = nI s ∧ s ≤ gt_rc a_tokenSpan (24 * d + n - 1) j)
    (h : ∀ r' : Nat → Int32, (∀ i, i < l → r' (4 * d + i) = nI (gt_rc a_tokenSpan (24 * d + n - 1) (l - i))) → r' (4 * d + 3) = nI (24 * d + n - 1) → (∀ q, (q < 4 * d ∨ 4 * d + 4 ≤ q) → r' q = a_roots q) → post (f_draftSlot, f_slotTokens, f_slotRoots, f_itemArgument, f_itemLeft, f_itemRight, f_itemChoice, f_nodeFresh, f_nodeBusy, f_nodeNumber, f_nodePartial, f_modeRead, f_modeDemand, f_modeEnter, f_modeGive, f_placeNodes, f_defs, f_maxTokens, f_depth, f_maxPrice, f_limit, f_draftTarget, f_draftMade, f_result, f_price, f_peak, f_outcome, f_mode, f_nowA, f_nowB, f_items, f_marks, f_high, f_nodes, f_frames, a_slotUsed, a_slotArity, a_slotLocals, a_slotSize, a_tokenKind, a_tokenValue, a_tokenSpan, r', a_itemSort, a_itemA, a_itemB, a_markNode, a_markPrice, a_markBase, a_markHigh, a_nodeState, a_nodeCode, a_nodeExtra, a_nodePrice, a_nodeHeight, a_nodeHeld, a_frameArgs, a_frameLocals)) : wpX_findRoots post (f_draftSlot, f_slotTokens, f_slotRoots, f_itemArgument, f_itemLeft, f_itemRight, f_itemChoice, f_nodeFresh, f_nodeBusy, f_nodeNumber, f_nodePartial, f_modeRead, f_modeDemand, f_modeEnter, f_modeGive, f_placeNodes, f_defs, f_maxTokens, f_depth, f_maxPrice, f_limit, f_draftTarget, f_draftMade, f_result, f_price, f_peak, f_outcome, f_mode, f_nowA, f_nowB, f_items, f_marks, f_high, f_nodes, f_frames, a_slotUsed, a_slotArity, a_slotLocals, a_slotSize, a_tokenKind, a_tokenValue, a_tokenSpan, a_roots, a_itemSort, a_itemA, a_itemB, a_markNode, a_markPrice, a_markBase, a_markHigh, a_nodeState, a_nodeCode, a_nodeExtra, a_nodePrice, a_nodeHeight, a_nodeHeld, a_frameArgs, a_frameLocals) (nI d) := by
  have vi : vp_in (nI d) 9 := ga_in (by omega)
  have cl : (nI d).toNatClampNeg = d := nI_clamp (by omega)
  have e1 : nI d * 24 + a_slotSize (nI d).toNatClampNeg - 1 = nI (24 * d + n - 1) := by
    rw [cl, hz, ga_x24, nI_add, ga_s (by omega)]; exact congrArg nI (by omega)
  have x4 : nI d * 4 + 3 = nI (4 * d + 3) := by
    rw [ga_x4, show (3 : Int32) = nI 3 from rfl, nI_add, Nat.mul_comm]
  have c4 : (nI d * 4 + 3).toNatClampNeg = 4 * d + 3 := pk_cl _ x4
  refine ⟨vi, nm_r e1 ⟨pk_in _ 36 (by omega) x4, nm_r (e' := upd a_roots (4 * d + 3) (nI (24 * d + n - 1))) (by rw [c4]) ⟨vi, nm_r (e' := nI l - 1) (by rw [cl, hc]) ⟨l + 1, ?_⟩⟩⟩⟩
  refine gl_roots_l (a_roots := upd a_roots (4 * d + 3) (nI (24 * d + n - 1))) hd hl hp ?_ l _ _ _ (Nat.le_refl _) (fun i a b => absurd a (by omega)) (fun q hq => rfl) ?_ rfl
  · intro r' a b
    refine h r' a ?_ ?_
    · rw [b _ (by omega), pk_us]
    · intro q hq
      rw [b q (by omega), pk_un (by omega)]
  · rw [Nat.sub_self]; rfl
end X
end GL
end
section
section GR
def gr_SL (ar lc sz kd vl sp rt : Nat → Int32) (df d : Nat) : Prop :=
  ∃ n a l, n ≤ 24 ∧ a ≤ 4 ∧ l ≤ 3 ∧ sz d = nI n ∧ ar d = nI a ∧ lc d = nI l ∧ gt_Row kd vl sp (24 * d) n a l df ∧ gt_ct kd (24 * d) n = l + 1 ∧
    rt (4 * d + 3) = nI (24 * d + n - 1) ∧ ∀ i, i < l → rt (4 * d + i) = nI (gt_rc sp (24 * d + n - 1) (l - i))
def gr_DR (ar lc sz kd vl sp : Nat → Int32) (df mt : Nat) (dt dm : Int32) : Prop :=
  ∃ n a l t, n ≤ mt ∧ a ≤ 4 ∧ l ≤ 3 ∧ sz 8 = nI n ∧ ar 8 = nI a ∧ lc 8 = nI l ∧ gt_Row kd vl sp 192 n a l df ∧ dm = nI (gt_ct kd 192 n) ∧ dt = nI t ∧ t < df
def gr_N (df mt D mp L : Nat) : Prop := 1 ≤ df ∧ df ≤ 8 ∧ 8 ≤ mt ∧ mt ≤ 24 ∧ 8 ≤ D ∧ D ≤ 200 ∧ 64 ≤ mp ∧ mp ≤ 4000 ∧ 1 ≤ L ∧ L ≤ mp
def gr_Q (df mt : Nat) (dt dm : Int32) (used ar lc sz kd vl sp rt : Nat → Int32) : Prop :=
  (∀ d, d < 8 → ¬ used d = 0 → gr_SL ar lc sz kd vl sp rt df d) ∧ (¬ used 8 = 0 → gr_DR ar lc sz kd vl sp df mt dt dm)
def gr_R (f_defs f_maxTokens f_depth f_maxPrice f_limit f_draftTarget f_draftMade f_result f_price f_peak : Int32) (a_slotUsed a_slotArity a_slotLocals a_slotSize a_tokenKind a_tokenValue a_tokenSpan a_roots : Nat → Int32)
    (g_defs g_maxTokens g_depth g_maxPrice g_limitNow g_draftTarget g_lastResult g_lastPrice g_lastPeak : Int32) (b_kind b_val b_there b_sizes b_arities b_localCounts : Nat → Int32) : Prop :=
  ∃ df mt D mp L : Nat, gr_N df mt D mp L ∧ f_defs = nI df ∧ f_maxTokens = nI mt ∧ f_depth = nI D ∧ f_maxPrice = nI mp ∧ f_limit = nI L ∧
    g_defs = nI df ∧ g_maxTokens = nI mt ∧ g_depth = nI D ∧ g_maxPrice = nI mp ∧ g_limitNow = nI L ∧
    g_draftTarget = f_draftTarget ∧ g_lastResult = f_result ∧ g_lastPrice = f_price ∧ g_lastPeak = f_peak ∧
    b_there = a_slotUsed ∧ b_sizes = a_slotSize ∧ b_arities = a_slotArity ∧ b_localCounts = a_slotLocals ∧
    (∀ q, q < 216 → b_kind q = a_tokenKind q ∧ b_val q = a_tokenValue q) ∧
    gr_Q df mt f_draftTarget f_draftMade a_slotUsed a_slotArity a_slotLocals a_slotSize a_tokenKind a_tokenValue a_tokenSpan a_roots
/-- the relation at the head of a turn: settings, slots and answers alike; the tokens alike below 216; every used slot and the open draft well formed -/
def i_Rel (k : Nat) (u : SX) (v : SY) : Prop := match u with
  | (f_draftSlot, f_slotTokens, f_slotRoots, f_itemArgument, f_itemLeft, f_itemRight, f_itemChoice, f_nodeFresh, f_nodeBusy, f_nodeNumber, f_nodePartial, f_modeRead, f_modeDemand, f_modeEnter, f_modeGive, f_placeNodes, f_defs, f_maxTokens, f_depth, f_maxPrice, f_limit, f_draftTarget, f_draftMade, f_result, f_price, f_peak, f_outcome, f_mode, f_nowA, f_nowB, f_items, f_marks, f_high, f_nodes, f_frames, a_slotUsed, a_slotArity, a_slotLocals, a_slotSize, a_tokenKind, a_tokenValue, a_tokenSpan, a_roots, a_itemSort, a_itemA, a_itemB, a_markNode, a_markPrice, a_markBase, a_markHigh, a_nodeState, a_nodeCode, a_nodeExtra, a_nodePrice, a_nodeHeight, a_nodeHeld, a_frameArgs, a_frameLocals) => match v with
    | (g_defs, g_maxTokens, g_depth, g_maxPrice, g_limitNow, g_draftTarget, g_lastResult, g_lastPrice, g_lastPeak, g_items, g_frames, g_paid, g_high, g_ending, g_outcome, g_giving, g_value, g_expr, g_frame, b_kind, b_val, b_there, b_sizes, b_arities, b_localCounts, b_itemSort, b_itemA, b_itemB, b_itemFrame, b_argExpr, b_argFrame) => gr_R f_defs f_maxTokens f_depth f_maxPrice f_limit f_draftTarget f_draftMade f_result f_price f_peak a_slotUsed a_slotArity a_slotLocals a_slotSize a_tokenKind a_tokenValue a_tokenSpan a_roots g_defs g_maxTokens g_depth g_maxPrice g_limitNow g_draftTarget g_lastResult g_lastPrice g_lastPeak b_kind b_val b_there b_sizes b_arities b_localCounts
theorem i_up {k : Nat} {u : SX} {v : SY} (h : i_Rel k u v) : i_Rel (k + 5) u v := h
theorem gr_R_el {P : Int32 → Int32 → Int32 → Int32 → Int32 → Int32 → Int32 → Int32 → Int32 → Int32 → Int32 → Int32 → Int32 → Int32 → (Nat → Int32) → (Nat → Int32) → (Nat → Int32) → (Nat → Int32) → Prop}
    {f_defs f_maxTokens f_depth f_maxPrice f_limit f_draftTarget f_draftMade f_result f_price f_peak : Int32} {a_slotUsed a_slotArity a_slotLocals a_slotSize a_tokenKind a_tokenValue a_tokenSpan a_roots : Nat → Int32}
    {g_defs g_maxTokens g_depth g_maxPrice g_limitNow g_draftTarget g_lastResult g_lastPrice g_lastPeak : Int32} {b_kind b_val b_there b_sizes b_arities b_localCounts : Nat → Int32}
    (h : ∀ df mt D mp L : Nat, gr_N df mt D mp L → (∀ q, q < 216 → b_kind q = a_tokenKind q ∧ b_val q = a_tokenValue q) → gr_Q df mt f_draftTarget f_draftMade a_slotUsed a_slotArity a_slotLocals a_slotSize a_tokenKind a_tokenValue a_tokenSpan a_roots →
      P (nI df) (nI mt) (nI D) (nI mp) (nI L) (nI df) (nI mt) (nI D) (nI mp) (nI L) f_draftTarget f_result f_price f_peak a_slotUsed a_slotSize a_slotArity a_slotLocals)
    (I : gr_R f_defs f_maxTokens f_depth f_maxPrice f_limit f_draftTarget f_draftMade f_result f_price f_peak a_slotUsed a_slotArity a_slotLocals a_slotSize a_tokenKind a_tokenValue a_tokenSpan a_roots g_defs g_maxTokens g_depth g_maxPrice g_limitNow g_draftTarget g_lastResult g_lastPrice g_lastPeak b_kind b_val b_there b_sizes b_arities b_localCounts) :
    P f_defs f_maxTokens f_depth f_maxPrice f_limit g_defs g_maxTokens g_depth g_maxPrice g_limitNow g_draftTarget g_lastResult g_lastPrice g_lastPeak b_there b_sizes b_arities b_localCounts := by
  obtain ⟨df, mt, D, mp, L, hN, rfl, rfl, rfl, rfl, rfl, rfl, rfl, rfl, rfl, rfl, e1, e2, e3, e4, e5, e6, e7, e8, hk, hq⟩ := I
  rw [e1, e2, e3, e4, e5, e6, e7, e8]
  exact h df mt D mp L hN hk hq
theorem gr_el {P : SX → SY → Prop} {k : Nat} {u : SX} {v : SY}
    (h : ∀ (f_draftSlot f_slotTokens f_slotRoots f_itemArgument f_itemLeft f_itemRight f_itemChoice f_nodeFresh f_nodeBusy f_nodeNumber f_nodePartial f_modeRead f_modeDemand f_modeEnter f_modeGive f_placeNodes f_draftTarget f_draftMade f_result f_price f_peak f_outcome f_mode f_nowA f_nowB f_items f_marks f_high f_nodes f_frames : Int32) (a_slotUsed a_slotArity a_slotLocals a_slotSize a_tokenKind a_tokenValue a_tokenSpan a_roots a_itemSort a_itemA a_itemB a_markNode a_markPrice a_markBase a_markHigh a_nodeState a_nodeCode a_nodeExtra a_nodePrice a_nodeHeight a_nodeHeld a_frameArgs a_frameLocals : Nat → Int32) (g_items g_frames g_paid g_high g_ending g_outcome g_giving g_value g_expr g_frame : Int32) (b_kind b_val b_itemSort b_itemA b_itemB b_itemFrame b_argExpr b_argFrame : Nat → Int32) (df mt D mp L : Nat), gr_N df mt D mp L → (∀ q, q < 216 → b_kind q = a_tokenKind q ∧ b_val q = a_tokenValue q) → gr_Q df mt f_draftTarget f_draftMade a_slotUsed a_slotArity a_slotLocals a_slotSize a_tokenKind a_tokenValue a_tokenSpan a_roots → P (f_draftSlot, f_slotTokens, f_slotRoots, f_itemArgument, f_itemLeft, f_itemRight, f_itemChoice, f_nodeFresh, f_nodeBusy, f_nodeNumber, f_nodePartial, f_modeRead, f_modeDemand, f_modeEnter, f_modeGive, f_placeNodes, nI df, nI mt, nI D, nI mp, nI L, f_draftTarget, f_draftMade, f_result, f_price, f_peak, f_outcome, f_mode, f_nowA, f_nowB, f_items, f_marks, f_high, f_nodes, f_frames, a_slotUsed, a_slotArity, a_slotLocals, a_slotSize, a_tokenKind, a_tokenValue, a_tokenSpan, a_roots, a_itemSort, a_itemA, a_itemB, a_markNode, a_markPrice, a_markBase, a_markHigh, a_nodeState, a_nodeCode, a_nodeExtra, a_nodePrice, a_nodeHeight, a_nodeHeld, a_frameArgs, a_frameLocals) (nI df, nI mt, nI D, nI mp, nI L, f_draftTarget, f_result, f_price, f_peak, g_items, g_frames, g_paid, g_high, g_ending, g_outcome, g_giving, g_value, g_expr, g_frame, b_kind, b_val, a_slotUsed, a_slotSize, a_slotArity, a_slotLocals, b_itemSort, b_itemA, b_itemB, b_itemFrame, b_argExpr, b_argFrame))
    (I : i_Rel k u v) : P u v :=
  match u, v, I with
  | (f_draftSlot, f_slotTokens, f_slotRoots, f_itemArgument, f_itemLeft, f_itemRight, f_itemChoice, f_nodeFresh, f_nodeBusy, f_nodeNumber, f_nodePartial, f_modeRead, f_modeDemand, f_modeEnter, f_modeGive, f_placeNodes, f_defs, f_maxTokens, f_depth, f_maxPrice, f_limit, f_draftTarget, f_draftMade, f_result, f_price, f_peak, f_outcome, f_mode, f_nowA, f_nowB, f_items, f_marks, f_high, f_nodes, f_frames, a_slotUsed, a_slotArity, a_slotLocals, a_slotSize, a_tokenKind, a_tokenValue, a_tokenSpan, a_roots, a_itemSort, a_itemA, a_itemB, a_markNode, a_markPrice, a_markBase, a_markHigh, a_nodeState, a_nodeCode, a_nodeExtra, a_nodePrice, a_nodeHeight, a_nodeHeld, a_frameArgs, a_frameLocals), (g_defs, g_maxTokens, g_depth, g_maxPrice, g_limitNow, g_draftTarget, g_lastResult, g_lastPrice, g_lastPeak, g_items, g_frames, g_paid, g_high, g_ending, g_outcome, g_giving, g_value, g_expr, g_frame, b_kind, b_val, b_there, b_sizes, b_arities, b_localCounts, b_itemSort, b_itemA, b_itemB, b_itemFrame, b_argExpr, b_argFrame), I => gr_R_el (P := fun f_defs f_maxTokens f_depth f_maxPrice f_limit g_defs g_maxTokens g_depth g_maxPrice g_limitNow g_draftTarget g_lastResult g_lastPrice g_lastPeak b_there b_sizes b_arities b_localCounts => P (f_draftSlot, f_slotTokens, f_slotRoots, f_itemArgument, f_itemLeft, f_itemRight, f_itemChoice, f_nodeFresh, f_nodeBusy, f_nodeNumber, f_nodePartial, f_modeRead, f_modeDemand, f_modeEnter, f_modeGive, f_placeNodes, f_defs, f_maxTokens, f_depth, f_maxPrice, f_limit, f_draftTarget, f_draftMade, f_result, f_price, f_peak, f_outcome, f_mode, f_nowA, f_nowB, f_items, f_marks, f_high, f_nodes, f_frames, a_slotUsed, a_slotArity, a_slotLocals, a_slotSize, a_tokenKind, a_tokenValue, a_tokenSpan, a_roots, a_itemSort, a_itemA, a_itemB, a_markNode, a_markPrice, a_markBase, a_markHigh, a_nodeState, a_nodeCode, a_nodeExtra, a_nodePrice, a_nodeHeight, a_nodeHeld, a_frameArgs, a_frameLocals) (g_defs, g_maxTokens, g_depth, g_maxPrice, g_limitNow, g_draftTarget, g_lastResult, g_lastPrice, g_lastPeak, g_items, g_frames, g_paid, g_high, g_ending, g_outcome, g_giving, g_value, g_expr, g_frame, b_kind, b_val, b_there, b_sizes, b_arities, b_localCounts, b_itemSort, b_itemA, b_itemB, b_itemFrame, b_argExpr, b_argFrame)) (fun df mt D mp L hN hk hq => h f_draftSlot f_slotTokens f_slotRoots f_itemArgument f_itemLeft f_itemRight f_itemChoice f_nodeFresh f_nodeBusy f_nodeNumber f_nodePartial f_modeRead f_modeDemand f_modeEnter f_modeGive f_placeNodes f_draftTarget f_draftMade f_result f_price f_peak f_outcome f_mode f_nowA f_nowB f_items f_marks f_high f_nodes f_frames a_slotUsed a_slotArity a_slotLocals a_slotSize a_tokenKind a_tokenValue a_tokenSpan a_roots a_itemSort a_itemA a_itemB a_markNode a_markPrice a_markBase a_markHigh a_nodeState a_nodeCode a_nodeExtra a_nodePrice a_nodeHeight a_nodeHeld a_frameArgs a_frameLocals g_items g_frames g_paid g_high g_ending g_outcome g_giving g_value g_expr g_frame b_kind b_val b_itemSort b_itemA b_itemB b_itemFrame b_argExpr b_argFrame df mt D mp L hN hk hq) I
theorem gr_mk {f_draftTarget f_draftMade f_result f_price f_peak : Int32} {a_slotUsed a_slotArity a_slotLocals a_slotSize a_tokenKind a_tokenValue a_tokenSpan a_roots b_kind b_val : Nat → Int32} {df mt D mp L : Nat}
    (hN : gr_N df mt D mp L) (hk : ∀ q, q < 216 → b_kind q = a_tokenKind q ∧ b_val q = a_tokenValue q) (hq : gr_Q df mt f_draftTarget f_draftMade a_slotUsed a_slotArity a_slotLocals a_slotSize a_tokenKind a_tokenValue a_tokenSpan a_roots) :
    gr_R (nI df) (nI mt) (nI D) (nI mp) (nI L) f_draftTarget f_draftMade f_result f_price f_peak a_slotUsed a_slotArity a_slotLocals a_slotSize a_tokenKind a_tokenValue a_tokenSpan a_roots (nI df) (nI mt) (nI D) (nI mp) (nI L) f_draftTarget f_result f_price f_peak b_kind b_val a_slotUsed a_slotSize a_slotArity a_slotLocals :=
  ⟨df, mt, D, mp, L, hN, rfl, rfl, rfl, rfl, rfl, rfl, rfl, rfl, rfl, rfl, rfl, rfl, rfl, rfl, rfl, rfl, rfl, rfl, hk, hq⟩
section V
variable {f_draftSlot f_slotTokens f_slotRoots f_itemArgument f_itemLeft f_itemRight f_itemChoice f_nodeFresh f_nodeBusy f_nodeNumber f_nodePartial f_modeRead f_modeDemand f_modeEnter f_modeGive f_placeNodes f_draftTarget f_draftMade f_result f_price f_peak f_outcome f_mode f_nowA f_nowB f_items f_marks f_high f_nodes f_frames : Int32} {a_slotUsed a_slotArity a_slotLocals a_slotSize a_tokenKind a_tokenValue a_tokenSpan a_roots a_itemSort a_itemA a_itemB a_markNode a_markPrice a_markBase a_markHigh a_nodeState a_nodeCode a_nodeExtra a_nodePrice a_nodeHeight a_nodeHeld a_frameArgs a_frameLocals : Nat → Int32} {g_items g_frames g_paid g_high g_ending g_outcome g_giving g_value g_expr g_frame : Int32} {b_kind b_val b_itemSort b_itemA b_itemB b_itemFrame b_argExpr b_argFrame : Nat → Int32} {df mt D mp L k : Nat}
theorem gr_in (hN : gr_N df mt D mp L) (hk : ∀ q, q < 216 → b_kind q = a_tokenKind q ∧ b_val q = a_tokenValue q) (hq : gr_Q df mt f_draftTarget f_draftMade a_slotUsed a_slotArity a_slotLocals a_slotSize a_tokenKind a_tokenValue a_tokenSpan a_roots) : i_Rel k (f_draftSlot, f_slotTokens, f_slotRoots, f_itemArgument, f_itemLeft, f_itemRight, f_itemChoice, f_nodeFresh, f_nodeBusy, f_nodeNumber, f_nodePartial, f_modeRead, f_modeDemand, f_modeEnter, f_modeGive, f_placeNodes, nI df, nI mt, nI D, nI mp, nI L, f_draftTarget, f_draftMade, f_result, f_price, f_peak, f_outcome, f_mode, f_nowA, f_nowB, f_items, f_marks, f_high, f_nodes, f_frames, a_slotUsed, a_slotArity, a_slotLocals, a_slotSize, a_tokenKind, a_tokenValue, a_tokenSpan, a_roots, a_itemSort, a_itemA, a_itemB, a_markNode, a_markPrice, a_markBase, a_markHigh, a_nodeState, a_nodeCode, a_nodeExtra, a_nodePrice, a_nodeHeight, a_nodeHeld, a_frameArgs, a_frameLocals) (nI df, nI mt, nI D, nI mp, nI L, f_draftTarget, f_result, f_price, f_peak, g_items, g_frames, g_paid, g_high, g_ending, g_outcome, g_giving, g_value, g_expr, g_frame, b_kind, b_val, a_slotUsed, a_slotSize, a_slotArity, a_slotLocals, b_itemSort, b_itemA, b_itemB, b_itemFrame, b_argExpr, b_argFrame) := gr_mk hN hk hq
end V
theorem gr_SL_cg {ar lc sz kd vl sp rt ar' lc' sz' kd' vl' sp' rt' : Nat → Int32} {df d : Nat} (h1 : ar' d = ar d ∧ lc' d = lc d ∧ sz' d = sz d)
    (h2 : ∀ q, 24 * d ≤ q → q < 24 * d + 24 → kd' q = kd q ∧ vl' q = vl q ∧ sp' q = sp q) (h3 : ∀ q, 4 * d ≤ q → q < 4 * d + 4 → rt' q = rt q) (h : gr_SL ar lc sz kd vl sp rt df d) : gr_SL ar' lc' sz' kd' vl' sp' rt' df d := by
  obtain ⟨n, a, l, b1, b2, b3, c1, c2, c3, hr, hc, r1, r2⟩ := h
  have hn := gt_pos' (kd := kd) (B := 24 * d) (i := n) (by omega)
  refine ⟨n, a, l, b1, b2, b3, h1.2.2.trans c1, h1.1.trans c2, h1.2.1.trans c3, gt_Row_cg (fun j hj => h2 _ (by omega) (by omega)) hr, ?_, ?_, ?_⟩
  · rw [← hc]; exact gt_ct_cg n (fun i hi => (h2 _ (by omega) (by omega)).1)
  · rw [h3 _ (by omega) (by omega)]; exact r1
  · intro i hi
    rw [h3 _ (by omega) (by omega), r2 i hi]
    rw [(gt_rc_cg (B := 24 * d) l (fun j hj => (gt_roots hr b1 hc j hj).1) (fun q q1 q2 => (h2 q q1 (by omega)).2.2) (l - i) (by omega)).1]
theorem gr_y0 {A B : Prop} {x : Int32} {df : Nat} (hx : x < 0 ∨ nI df ≤ x) (h : A) : (x < 0 → A) ∧ (¬ x < 0 → ((x < nI df → B) ∧ (¬ x < nI df → A))) := by
  by_cases g : x < 0
  · exact br_t g h
  · refine br_f g (br_f ?_ h)
    rcases hx with hx | hx
    · exact absurd hx g
    · exact Int32.not_lt.mpr hx
theorem gr_y1 {A B : Prop} {j df : Nat} (hj : j < df) (hd : df ≤ 8) (h : B) : (nI j < 0 → A) ∧ (¬ nI j < 0 → ((nI j < nI df → B) ∧ (¬ nI j < nI df → A))) :=
  br_f (nI_pos (by omega)) (br_t (nI_lt hj (by omega)) h)
theorem gr_z0 {A B : Prop} {x : Int32} {df : Nat} (hx : x < 0 ∨ nI df ≤ x) (h : A) : (x < 0 → A) ∧ (¬ x < 0 → ((nI df ≤ x → A) ∧ (¬ nI df ≤ x → B))) := by
  by_cases g : x < 0
  · exact br_t g h
  · refine br_f g (br_t ?_ h)
    rcases hx with hx | hx
    · exact absurd hx g
    · exact hx
theorem gr_z1 {A B : Prop} {j df : Nat} (hj : j < df) (hd : df ≤ 8) (h : B) : (nI j < 0 → A) ∧ (¬ nI j < 0 → ((nI df ≤ nI j → A) ∧ (¬ nI df ≤ nI j → B))) :=
  br_f (nI_pos (by omega)) (br_f (nI_ge hj (by omega)) h)
theorem gr_ix (x : Int32) {df : Nat} (hd : df ≤ 8) : (x < 0 ∨ nI df ≤ x) ∨ ∃ j, j < df ∧ x = nI j := by
  rcases pk_ix x (n := df) (by omega) with h | h | h
  · exact Or.inl (Or.inl h)
  · exact Or.inl (Or.inr h)
  · exact Or.inr h
end GR
end
section
section GC
/-- a state of Y's run: items, frames, paid, high, ending, outcome, giving, value, expr, frame; the items' and the arguments' arrays -/
abbrev gc_Y : Type := Nat × Nat × Nat × Nat × Int32 × Int32 × Int32 × Int32 × Int32 × Int32 × (Nat → Int32) × (Nat → Int32) × (Nat → Int32) × (Nat → Int32) × (Nat → Int32) × (Nat → Int32)
/-- the ghost heap: frames, nodes, a frame's definition, its arguments' nodes, a node's first token and frame -/
abbrev gc_H : Type := Nat × Nat × (Nat → Nat) × (Nat → Nat → Nat) × (Nat → Nat) × (Nat → Nat)
def gh_nf (H : gc_H) : Nat := H.1
def gh_nn (H : gc_H) : Nat := H.2.1
def gh_fd (H : gc_H) : Nat → Nat := H.2.2.1
def gh_fa (H : gc_H) : Nat → Nat → Nat := H.2.2.2.1
def gh_oT (H : gc_H) : Nat → Nat := H.2.2.2.2.1
def gh_oF (H : gc_H) : Nat → Nat := H.2.2.2.2.2
/-- the program: kinds, operands, spans, arities, which tokens belong to a definition, depth, limit, 'Y reaches' -/
abbrev gc_G : Type := (Nat → Int32) × (Nat → Int32) × (Nat → Nat) × (Nat → Nat) × (Nat → Nat → Prop) × Nat × Nat × (gc_Y → gc_Y → Prop)
def gg_k (G : gc_G) : Nat → Int32 := G.1
def gg_v (G : gc_G) : Nat → Int32 := G.2.1
def gg_s (G : gc_G) : Nat → Nat := G.2.2.1
def gg_ar (G : gc_G) : Nat → Nat := G.2.2.2.1
def gg_T (G : gc_G) : Nat → Nat → Prop := G.2.2.2.2.1
def gg_D (G : gc_G) : Nat := G.2.2.2.2.2.1
def gg_L (G : gc_G) : Nat := G.2.2.2.2.2.2.1
def gg_r (G : gc_G) : gc_Y → gc_Y → Prop := G.2.2.2.2.2.2.2
/-- what is to be done: read a token in a frame, enter a definition (its reading paid), give a value -/
abbrev gc_C : Type := (Nat × Nat) ⊕ (Nat ⊕ Int32)
abbrev gc_cR (e f : Nat) : gc_C := .inl (e, f)
abbrev gc_cE (d : Nat) : gc_C := .inr (.inl d)
abbrev gc_cV (v : Int32) : gc_C := .inr (.inr v)
def gc_Mx (r a b : Nat) : Prop := a ≤ r ∧ b ≤ r ∧ (r = a ∨ r = b)
def gc_it (y : gc_Y) : Nat := y.1
def gc_Le (H H' : gc_H) : Prop := gh_nf H ≤ gh_nf H' ∧ gh_nn H ≤ gh_nn H' ∧ (∀ f, f < gh_nf H → gh_fd H' f = gh_fd H f ∧ ∀ i, gh_fa H' f i = gh_fa H f i) ∧ ∀ n, n < gh_nn H → gh_oT H' n = gh_oT H n ∧ gh_oF H' n = gh_oF H n
def gc_RF (G : gc_G) (H : gc_H) (m : Nat → Nat) (fr e f : Nat) (yf : Int32) : Prop :=
  e < 240 ∧ (gg_k G e = 1 ∨ (f < gh_nf H ∧ gg_T G (gh_fd H f) e ∧ ∃ g, yf = nI g ∧ g < fr ∧ m g = f))
def gc_CL (G : gc_G) (H : gc_H) (m : Nat → Nat) (fr : Nat) (ya yf : Int32) (n : Nat) : Prop :=
  n < gh_nn H ∧ ya = nI (gh_oT H n) ∧ gc_RF G H m fr (gh_oT H n) (gh_oF H n) yf
def gc_op (k : Int32) : Prop := ∃ j, 6 ≤ j ∧ j ≤ 10 ∧ k = nI j
def gc_IC (G : gc_G) (H : gc_H) (m : Nat → Nat) (fr : Nat) (s a b ys ya yb yf : Int32) : Prop :=
  (s = 0 ∧ ys = 1 ∧ ∃ n, a = nI n ∧ 8 ≤ n ∧ gc_CL G H m fr ya yf n) ∨
  (s = 1 ∧ ys = 2 ∧ ∃ p f g, a = nI p ∧ b = nI f ∧ f < gh_nf H ∧ gg_T G (gh_fd H f) p ∧ gc_op (gg_k G p) ∧ ya = gg_k G p ∧ yb = nI (p - 1) ∧ yf = nI g ∧ g < fr ∧ m g = f) ∨
  (s = 2 ∧ ys = 3 ∧ ∃ p, a = nI p ∧ p < 216 ∧ gc_op (gg_k G p) ∧ ya = gg_k G p ∧ yb = b) ∨
  (s = 3 ∧ ys = 4 ∧ ∃ p f g, a = nI p ∧ b = nI f ∧ f < gh_nf H ∧ gg_T G (gh_fd H f) p ∧ gg_k G p = 11 ∧ ya = nI (p - 1 - gg_s G (p - 1)) ∧ yb = nI (p - 1) ∧ yf = nI g ∧ g < fr ∧ m g = f)
def gc_FR (G : gc_G) (H : gc_H) (m : Nat → Nat) (fr : Nat) (aE aF : Nat → Int32) : Prop :=
  ∀ g, g < fr → m g < gh_nf H ∧ ∀ i, i < gg_ar G (gh_fd H (m g)) → gc_CL G H m fr (aE (4 * g + i)) (aF (4 * g + i)) (gh_fa H (m g) i)
def gc_OK (G : gc_G) (H : gc_H) (m : Nat → Nat) (it fr pd hi : Nat) (en ou : Int32) (aE aF : Nat → Int32) (P : Nat) : Prop :=
  en = 0 ∧ ou = 0 ∧ it ≤ hi ∧ hi ≤ gg_D G ∧ P ≤ gg_L G ∧ 32 * fr ≤ pd ∧ gc_FR G H m fr aE aF ∧ gh_nf H ≤ 1000 ∧ gh_nn H ≤ 5000
def gc_CC (G : gc_G) (H : gc_H) (m : Nat → Nat) (c : gc_C) (fr pd : Nat) (gv vv ex fm : Int32) (P : Nat) : Prop := match c with
  | .inl ef => gv = 0 ∧ ex = nI ef.1 ∧ gc_RF G H m fr ef.1 ef.2 fm ∧ pd = P
  | .inr (.inl d) => gv = 0 ∧ (∃ e, e < 240 ∧ ex = nI e ∧ gg_k G e = 4 ∧ gg_v G e = nI d ∧ d < 8) ∧ pd + 1 = P
  | .inr (.inr v) => gv = 1 ∧ vv = v ∧ pd = P
def gc_SG (G : gc_G) (H : gc_H) (m : Nat → Nat) (fr : Nat) (xs xa xb : Nat → Int32) (b n b' : Nat) (iS iA iB iF : Nat → Int32) : Prop :=
  ∀ j, j < n → gc_IC G H m fr (xs (b + j)) (xa (b + j)) (xb (b + j)) (iS (b' + j)) (iA (b' + j)) (iB (b' + j)) (iF (b' + j))
/-- Y's state y corresponds to control c and the items b .. ix - 1 of xs, xa, xb, laid at b' -/
def gc_CF (G : gc_G) (H : gc_H) (m : Nat → Nat) (c : gc_C) (xs xa xb : Nat → Int32) (b ix : Nat) (y : gc_Y) (b' P : Nat) : Prop := match y with
  | (it, fr, pd, hi, en, ou, gv, vv, ex, fm, iS, iA, iB, iF, aE, aF) => gc_OK G H m it fr pd hi en ou aE aF P ∧ gc_CC G H m c fr pd gv vv ex fm P ∧ it = b' + (ix - b) ∧ gc_SG G H m fr xs xa xb b (ix - b) b' iS iA iB iF
def gc_KP (m m' : Nat → Nat) (b' fr fr' : Nat) (iS iA iB iF iS' iA' iB' iF' : Nat → Int32) : Prop :=
  fr ≤ fr' ∧ (∀ g, g < fr → m' g = m g) ∧ ∀ j, j < b' → iS' j = iS j ∧ iA' j = iA j ∧ iB' j = iB j ∧ iF' j = iF j
/-- what a path keeps: the frames, the items below b'; and the height it reaches -/
def gc_Kp (m m' : Nat → Nat) (y y' : gc_Y) (b' h : Nat) : Prop := match y with
  | (it, fr, pd, hi, en, ou, gv, vv, ex, fm, iS, iA, iB, iF, aE, aF) => match y' with
    | (_, fr', _, hi', _, _, _, _, _, _, iS', iA', iB', iF', _, _) => gc_KP m m' b' fr fr' iS iA iB iF iS' iA' iB' iF' ∧ gc_Mx hi' hi h
def gc_LM (y : gc_Y) : Prop := match y with
  | (it, fr, pd, hi, en, ou, gv, vv, ex, fm, iS, iA, iB, iF, aE, aF) => en = 3 ∧ ou = 0 ∧ pd ≤ 4040 ∧ it ≤ 200
/-- the path: from every state of Y that corresponds to (c, items b .. ix) Y reaches one that corresponds to (c', items b .. ix'), pays k and reaches hh, or it ends by a limit -/
def gc_ST (G : gc_G) (H : gc_H) (c : gc_C) (xs xa xb : Nat → Int32) (b ix : Nat) (c' : gc_C) (xs' xa' xb' : Nat → Int32) (ix' k hh : Nat) : Prop :=
  ∀ (H' : gc_H) (m : Nat → Nat) (y : gc_Y) (b' P : Nat), gc_Le H H' → gc_CF G H' m c xs xa xb b ix y b' P →
    (P + k ≤ gg_L G → b' + (hh - b) ≤ gg_D G → ∃ m' y', gg_r G y y' ∧ gc_CF G H' m' c' xs' xa' xb' b ix' y' b' (P + k) ∧ gc_Kp m m' y y' b' (b' + (hh - b))) ∧
    (¬ (P + k ≤ gg_L G ∧ b' + (hh - b) ≤ gg_D G) → ∃ y', gg_r G y y' ∧ gc_LM y')
/-- 'reaches' is reflexive and goes on -/
def gc_RT (G : gc_G) : Prop := (∀ y, gg_r G y y) ∧ ∀ x y z, gg_r G x y → gg_r G y z → gg_r G x z

theorem gc_Le_rf (H : gc_H) : gc_Le H H := ⟨Nat.le_refl _, Nat.le_refl _, fun _ _ => ⟨rfl, fun _ => rfl⟩, fun _ _ => ⟨rfl, rfl⟩⟩
theorem gc_Le_tr {A B C : gc_H} (h : gc_Le A B) (g : gc_Le B C) : gc_Le A C := by
  obtain ⟨h1, h2, h3, h4⟩ := h
  obtain ⟨g1, g2, g3, g4⟩ := g
  exact ⟨Nat.le_trans h1 g1, Nat.le_trans h2 g2, fun f hf => ⟨(g3 f (Nat.lt_of_lt_of_le hf h1)).1.trans (h3 f hf).1, fun i => ((g3 f (Nat.lt_of_lt_of_le hf h1)).2 i).trans ((h3 f hf).2 i)⟩, fun n hn => ⟨(g4 n (Nat.lt_of_lt_of_le hn h2)).1.trans (h4 n hn).1, (g4 n (Nat.lt_of_lt_of_le hn h2)).2.trans (h4 n hn).2⟩⟩
section V
variable {G : gc_G} {H H' : gc_H} {m m' : Nat → Nat} {fr fr' : Nat}
theorem gc_RF_mo (hl : gc_Le H H') (hf : fr ≤ fr') (hm : ∀ g, g < fr → m' g = m g) {e f : Nat} {yf : Int32} (h : gc_RF G H m fr e f yf) : gc_RF G H' m' fr' e f yf := by
  obtain ⟨h1, h2⟩ := h
  refine ⟨h1, ?_⟩
  rcases h2 with h2 | ⟨a, b, g, c1, c2, c3⟩
  · exact Or.inl h2
  · refine Or.inr ⟨Nat.lt_of_lt_of_le a hl.1, ?_, g, c1, Nat.lt_of_lt_of_le c2 hf, (hm g c2).trans c3⟩
    rw [(hl.2.2.1 f a).1]; exact b
theorem gc_CL_mo (hl : gc_Le H H') (hf : fr ≤ fr') (hm : ∀ g, g < fr → m' g = m g) {ya yf : Int32} {n : Nat} (h : gc_CL G H m fr ya yf n) : gc_CL G H' m' fr' ya yf n := by
  obtain ⟨h1, h2, h3⟩ := h
  have e := hl.2.2.2 n h1
  refine ⟨Nat.lt_of_lt_of_le h1 hl.2.1, by rw [e.1]; exact h2, ?_⟩
  rw [e.1, e.2]
  exact gc_RF_mo hl hf hm h3
theorem gc_IC_mo (hl : gc_Le H H') (hf : fr ≤ fr') (hm : ∀ g, g < fr → m' g = m g) {s a b ys ya yb yf : Int32} (h : gc_IC G H m fr s a b ys ya yb yf) : gc_IC G H' m' fr' s a b ys ya yb yf := by
  rcases h with ⟨h1, h2, n, h3, h4, h5⟩ | ⟨h1, h2, p, f, g, a1, a2, a3, a4, a5, a6, a7, a8, a9, a10⟩ | h | ⟨h1, h2, p, f, g, a1, a2, a3, a4, a5, a6, a7, a8, a9, a10⟩
  · exact Or.inl ⟨h1, h2, n, h3, h4, gc_CL_mo hl hf hm h5⟩
  · exact Or.inr (Or.inl ⟨h1, h2, p, f, g, a1, a2, Nat.lt_of_lt_of_le a3 hl.1, by rw [(hl.2.2.1 f a3).1]; exact a4, a5, a6, a7, a8, Nat.lt_of_lt_of_le a9 hf, (hm g a9).trans a10⟩)
  · exact Or.inr (Or.inr (Or.inl h))
  · exact Or.inr (Or.inr (Or.inr ⟨h1, h2, p, f, g, a1, a2, Nat.lt_of_lt_of_le a3 hl.1, by rw [(hl.2.2.1 f a3).1]; exact a4, a5, a6, a7, a8, Nat.lt_of_lt_of_le a9 hf, (hm g a9).trans a10⟩))
theorem gc_FR_mo (hl : gc_Le H H') {aE aF : Nat → Int32} (h : gc_FR G H m fr aE aF) : gc_FR G H' m fr aE aF := by
  intro g hg
  obtain ⟨h1, h2⟩ := h g hg
  refine ⟨Nat.lt_of_lt_of_le h1 hl.1, fun i hi => ?_⟩
  rw [(hl.2.2.1 _ h1).1] at hi
  rw [(hl.2.2.1 _ h1).2 i]
  exact gc_CL_mo hl (Nat.le_refl _) (fun _ _ => rfl) (h2 i hi)
theorem gc_SG_mo (hl : gc_Le H H') (hf : fr ≤ fr') (hm : ∀ g, g < fr → m' g = m g) {xs xa xb iS iA iB iF : Nat → Int32} {b n b' : Nat} (h : gc_SG G H m fr xs xa xb b n b' iS iA iB iF) : gc_SG G H' m' fr' xs xa xb b n b' iS iA iB iF :=
  fun j hj => gc_IC_mo hl hf hm (h j hj)
theorem gc_CC_mo (hl : gc_Le H H') {c : gc_C} {pd P : Nat} {gv vv ex fm : Int32} (h : gc_CC G H m c fr pd gv vv ex fm P) : gc_CC G H' m c fr pd gv vv ex fm P := by
  rcases c with ef | d | v
  · exact ⟨h.1, h.2.1, gc_RF_mo hl (Nat.le_refl _) (fun _ _ => rfl) h.2.2.1, h.2.2.2⟩
  · exact h
  · exact h
theorem gc_CF_mo (hl : gc_Le H H') (hb1 : gh_nf H' ≤ 1000) (hb2 : gh_nn H' ≤ 5000) {c : gc_C} {xs xa xb : Nat → Int32} {b ix b' P : Nat} {y : gc_Y} (h : gc_CF G H m c xs xa xb b ix y b' P) : gc_CF G H' m c xs xa xb b ix y b' P := by
  obtain ⟨it, fr, pd, hi, en, ou, gv, vv, ex, fm, iS, iA, iB, iF, aE, aF⟩ := y
  obtain ⟨⟨o1, o2, o3, o4, o5, o6, o7, o8, o9⟩, h2, h3, h4⟩ := h
  exact And.intro ⟨o1, o2, o3, o4, o5, o6, gc_FR_mo hl o7, hb1, hb2⟩ (And.intro (gc_CC_mo hl h2) (And.intro h3 (gc_SG_mo hl (Nat.le_refl _) (fun _ _ => rfl) h4)))
theorem gc_Kp_rf {y : gc_Y} {b' h : Nat} (hh : match y with | (it, fr, pd, hi, en, ou, gv, vv, ex, fm, iS, iA, iB, iF, aE, aF) => h ≤ hi) : gc_Kp m m y y b' h := by
  obtain ⟨it, fr, pd, hi, en, ou, gv, vv, ex, fm, iS, iA, iB, iF, aE, aF⟩ := y
  have hh' : h ≤ hi := hh
  exact And.intro ⟨Nat.le_refl _, fun _ _ => rfl, fun _ _ => ⟨rfl, rfl, rfl, rfl⟩⟩ ⟨Nat.le_refl _, hh', Or.inl rfl⟩
theorem gc_Kp_tr {m1 m2 : Nat → Nat} {y y1 y2 : gc_Y} {b' h1 h2 h3 : Nat} (a : gc_Kp m m1 y y1 b' h1) (b : gc_Kp m1 m2 y1 y2 b' h2) (hm : gc_Mx h3 h1 h2) : gc_Kp m m2 y y2 b' h3 := by
  obtain ⟨it, fr, pd, hi, en, ou, gv, vv, ex, fm, iS, iA, iB, iF, aE, aF⟩ := y
  obtain ⟨it1, fr1, pd1, hi1, en1, ou1, gv1, vv1, ex1, fm1, iS1, iA1, iB1, iF1, aE1, aF1⟩ := y1
  obtain ⟨it2, fr2, pd2, hi2, en2, ou2, gv2, vv2, ex2, fm2, iS2, iA2, iB2, iF2, aE2, aF2⟩ := y2
  obtain ⟨⟨a1, a2, a3⟩, a4⟩ := a
  obtain ⟨⟨b1, b2, b3⟩, b4⟩ := b
  refine And.intro ⟨Nat.le_trans a1 b1, fun g hg => (b2 g (Nat.lt_of_lt_of_le hg a1)).trans (a2 g hg), fun j hj => ?_⟩ ?_
  · obtain ⟨c1, c2, c3, c4⟩ := a3 j hj
    obtain ⟨d1, d2, d3, d4⟩ := b3 j hj
    exact ⟨d1.trans c1, d2.trans c2, d3.trans c3, d4.trans c4⟩
  · unfold gc_Mx at *
    omega
end V
section P
variable {G : gc_G} {H H2 : gc_H} {c c1 c2 c3 : gc_C} {xs xa xb xs1 xa1 xb1 xs2 xa2 xb2 xs3 xa3 xb3 : Nat → Int32} {b ix ix1 ix2 ix3 k k2 hh hh2 hh3 : Nat}
theorem gc_mono (hl : gc_Le H H2) (h : gc_ST G H c1 xs1 xa1 xb1 b ix1 c2 xs2 xa2 xb2 ix2 k hh) : gc_ST G H2 c1 xs1 xa1 xb1 b ix1 c2 xs2 xa2 xb2 ix2 k hh :=
  fun H' m y b' P hle hcf => h H' m y b' P (gc_Le_tr hl hle) hcf
theorem gc_refl (hR : gc_RT G) (hb : b ≤ ix) : gc_ST G H c xs xa xb b ix c xs xa xb ix 0 ix := by
  intro H' m y b' P hle hcf
  obtain ⟨it, fr, pd, hi, en, ou, gv, vv, ex, fm, iS, iA, iB, iF, aE, aF⟩ := y
  obtain ⟨⟨o1, o2, o3, o4, o5, o6, o7, o8, o9⟩, h2, h3, h4⟩ := id hcf
  refine ⟨fun _ _ => ⟨m, _, hR.1 _, hcf, gc_Kp_rf (show _ ≤ hi by omega)⟩, fun z => absurd ?_ z⟩
  exact ⟨o5, by omega⟩
theorem gc_trans (hR : gc_RT G) (hl : gc_Le H H2) (h : gc_ST G H c1 xs1 xa1 xb1 b ix1 c2 xs2 xa2 xb2 ix2 k hh) (g : gc_ST G H2 c2 xs2 xa2 xb2 b ix2 c3 xs3 xa3 xb3 ix3 k2 hh2) (hm : gc_Mx hh3 hh hh2) :
    gc_ST G H2 c1 xs1 xa1 xb1 b ix1 c3 xs3 xa3 xb3 ix3 (k + k2) hh3 := by
  intro H' m y b' P hle hcf
  obtain ⟨s1, s2⟩ := h H' m y b' P (gc_Le_tr hl hle) hcf
  have hm' : gc_Mx (b' + (hh3 - b)) (b' + (hh - b)) (b' + (hh2 - b)) := by unfold gc_Mx at *; omega
  obtain ⟨q1, q2, q3⟩ := id hm'
  refine ⟨fun p1 p2 => ?_, fun z => ?_⟩
  · obtain ⟨m1, y1, r1, f1, e1⟩ := s1 (by omega) (by omega)
    obtain ⟨t1, _⟩ := g H' m1 y1 b' (P + k) hle f1
    obtain ⟨m2, y2, r2, f2, e2⟩ := t1 (by omega) (by omega)
    refine ⟨m2, y2, hR.2 _ _ _ r1 r2, ?_, gc_Kp_tr e1 e2 hm'⟩
    rw [← Nat.add_assoc]; exact f2
  · by_cases w : P + k ≤ gg_L G ∧ b' + (hh - b) ≤ gg_D G
    · obtain ⟨m1, y1, r1, f1, e1⟩ := s1 w.1 w.2
      obtain ⟨_, t2⟩ := g H' m1 y1 b' (P + k) hle f1
      obtain ⟨y2, r2, l2⟩ := t2 (by omega)
      exact ⟨y2, hR.2 _ _ _ r1 r2, l2⟩
    · exact s2 w
/-- equal items: the second word of an argument is nothing -/
def gc_Eq (s a b s' a' b' : Int32) : Prop := s' = s ∧ a' = a ∧ (s = 0 ∨ b' = b)
theorem gc_Eq_rf {s a b : Int32} : gc_Eq s a b s a b := ⟨rfl, rfl, Or.inr rfl⟩
theorem gc_Eq_sy {s a b s' a' b' : Int32} (h : gc_Eq s a b s' a' b') : gc_Eq s' a' b' s a b := by
  obtain ⟨h1, h2, h3⟩ := h
  refine ⟨h1.symm, h2.symm, ?_⟩
  rcases h3 with h3 | h3
  · exact Or.inl (h1.trans h3)
  · exact Or.inr h3.symm
theorem gc_IC_eq {m : Nat → Nat} {fr : Nat} {s a b s' a' b' ys ya yb yf : Int32} (e : gc_Eq s a b s' a' b') (h : gc_IC G H m fr s a b ys ya yb yf) : gc_IC G H m fr s' a' b' ys ya yb yf := by
  obtain ⟨rfl, rfl, e3⟩ := e
  rcases e3 with e3 | rfl
  · subst e3
    rcases h with h | ⟨h, _⟩ | ⟨h, _⟩ | ⟨h, _⟩
    · exact Or.inl h
    · exact absurd h (by decide)
    · exact absurd h (by decide)
    · exact absurd h (by decide)
  · exact h
/-- the same path with its items laid elsewhere in the arrays -/
theorem gc_shift {ys ya yb ys2 ya2 yb2 : Nat → Int32} {d jx jx2 hj : Nat} (h : gc_ST G H c1 xs xa xb b ix c2 xs2 xa2 xb2 ix2 k hh)
    (e1 : jx - d = ix - b) (e2 : jx2 - d = ix2 - b) (e3 : hj - d = hh - b)
    (e4 : ∀ j, j < ix - b → gc_Eq (xs (b + j)) (xa (b + j)) (xb (b + j)) (ys (d + j)) (ya (d + j)) (yb (d + j)))
    (e5 : ∀ j, j < ix2 - b → gc_Eq (xs2 (b + j)) (xa2 (b + j)) (xb2 (b + j)) (ys2 (d + j)) (ya2 (d + j)) (yb2 (d + j))) :
    gc_ST G H c1 ys ya yb d jx c2 ys2 ya2 yb2 jx2 k hj := by
  intro H' m y b' P hle hcf
  have hcf' : gc_CF G H' m c1 xs xa xb b ix y b' P := by
    obtain ⟨it, fr, pd, hi, en, ou, gv, vv, ex, fm, iS, iA, iB, iF, aE, aF⟩ := y
    obtain ⟨o, h2, h3, h4⟩ := hcf
    refine And.intro o (And.intro h2 (And.intro (by omega) ?_))
    intro j hj
    exact gc_IC_eq (gc_Eq_sy (e4 j hj)) (h4 j (by omega))
  obtain ⟨s1, s2⟩ := h H' m y b' P hle hcf'
  rw [e3]
  refine ⟨fun p1 p2 => ?_, s2⟩
  obtain ⟨m1, y1, r1, f1, g1⟩ := s1 p1 p2
  refine ⟨m1, y1, r1, ?_, g1⟩
  obtain ⟨it, fr, pd, hi, en, ou, gv, vv, ex, fm, iS, iA, iB, iF, aE, aF⟩ := y1
  obtain ⟨o, h2, h3, h4⟩ := f1
  refine And.intro o (And.intro h2 (And.intro (by omega) ?_))
  intro j hj
  exact gc_IC_eq (e5 j (by omega)) (h4 j (by omega))
/-- a path that begins with no items, above other items -/
theorem gc_frame (h : gc_ST G H c1 xs xa xb ix ix c2 xs2 xa2 xb2 ix2 k hh) (hb : b ≤ ix) (hx : ix ≤ ix2) (hg : ix ≤ hh)
    (e : ∀ j, b ≤ j → j < ix → gc_Eq (xs j) (xa j) (xb j) (xs2 j) (xa2 j) (xb2 j)) :
    gc_ST G H c1 xs xa xb b ix c2 xs2 xa2 xb2 ix2 k hh := by
  intro H' m y b' P hle hcf
  obtain ⟨it, fr, pd, hi, en, ou, gv, vv, ex, fm, iS, iA, iB, iF, aE, aF⟩ := y
  obtain ⟨o, h2, h3, h4⟩ := id hcf
  have hcf' : gc_CF G H' m c1 xs xa xb ix ix (it, fr, pd, hi, en, ou, gv, vv, ex, fm, iS, iA, iB, iF, aE, aF) (b' + (ix - b)) P := And.intro o (And.intro h2 (And.intro (by omega) (fun j hj => absurd hj (by omega))))
  obtain ⟨s1, s2⟩ := h H' m _ _ P hle hcf'
  have ee : b' + (ix - b) + (hh - ix) = b' + (hh - b) := by omega
  rw [ee] at s1 s2
  refine ⟨fun p1 p2 => ?_, s2⟩
  obtain ⟨m1, y1, r1, f1, g1⟩ := s1 p1 p2
  refine ⟨m1, y1, r1, ?_, ?_⟩
  · obtain ⟨it1, fr1, pd1, hi1, en1, ou1, gv1, vv1, ex1, fm1, iS1, iA1, iB1, iF1, aE1, aF1⟩ := y1
    obtain ⟨o1, i2, i3, i4⟩ := f1
    obtain ⟨⟨k1, k2, k3⟩, _⟩ := g1
    refine And.intro o1 (And.intro i2 (And.intro (by omega) ?_))
    intro j hj
    by_cases w : j < ix - b
    · obtain ⟨a1, a2, a3, a4⟩ := k3 (b' + j) (by omega)
      rw [a1, a2, a3, a4]
      exact gc_IC_eq (e (b + j) (by omega) (by omega)) (gc_IC_mo (gc_Le_rf _) k1 k2 (h4 j w))
    · have := i4 (j - (ix - b)) (by omega)
      rw [show ix + (j - (ix - b)) = b + j from by omega, show b' + (ix - b) + (j - (ix - b)) = b' + j from by omega] at this
      exact this
  · obtain ⟨it1, fr1, pd1, hi1, en1, ou1, gv1, vv1, ex1, fm1, iS1, iA1, iB1, iF1, aE1, aF1⟩ := y1
    obtain ⟨⟨k1, k2, k3⟩, k4⟩ := g1
    exact And.intro ⟨k1, k2, fun j hj => k3 j (by omega)⟩ k4
/-- what needs itself ends by a limit -/
theorem gc_busy (hR : gc_RT G) (h : gc_ST G H c xs xa xb b b c xs2 xa2 xb2 ix2 k hh) (hk : 1 ≤ k) : ∀ (n : Nat) (H' : gc_H) (m : Nat → Nat) (y : gc_Y) (b' P : Nat) (ys ya yb : Nat → Int32) (d dx : Nat), gc_Le H H' → gg_L G < P + n → gc_CF G H' m c ys ya yb d dx y b' P → ∃ y', gg_r G y y' ∧ gc_LM y'
  | 0, H', m, y, b', P, ys, ya, yb, d, dx, hl, hn, hcf => by
    obtain ⟨it, fr, pd, hi, en, ou, gv, vv, ex, fm, iS, iA, iB, iF, aE, aF⟩ := y
    obtain ⟨⟨o1, o2, o3, o4, o5, o6, o7, o8, o9⟩, h2, h3, h4⟩ := hcf
    omega
  | n + 1, H', m, y, b', P, ys, ya, yb, d, dx, hl, hn, hcf => by
    have hcf' : gc_CF G H' m c xs xa xb b b y (gc_it y) P := by
      obtain ⟨it, fr, pd, hi, en, ou, gv, vv, ex, fm, iS, iA, iB, iF, aE, aF⟩ := y
      obtain ⟨o, h2, h3, h4⟩ := hcf
      exact And.intro o (And.intro h2 (And.intro (show it = it + (b - b) by omega) (fun j hj => absurd hj (by omega))))
    obtain ⟨s1, s2⟩ := h H' m y _ P hl hcf'
    by_cases w : P + k ≤ gg_L G ∧ gc_it y + (hh - b) ≤ gg_D G
    · obtain ⟨m1, y1, r1, f1, _⟩ := s1 w.1 w.2
      obtain ⟨y2, r2, l2⟩ := gc_busy hR h hk n H' m1 y1 _ (P + k) _ _ _ _ _ hl (by omega) f1
      exact ⟨y2, hR.2 _ _ _ r1 r2, l2⟩
    · exact s2 w
end P
end GC
end
section
section GP
def gp_B (G : gc_G) (it fr pd hi : Nat) : Prop := it ≤ hi ∧ hi ≤ gg_D G ∧ pd ≤ gg_L G ∧ 32 * fr ≤ pd
def gp_hx (hi n : Nat) : Nat := if n ≤ hi then hi else n
/-- a frame's arguments moved from the items -/
def gp_mv (a src : Nat → Int32) (f n it : Nat) : Nat → Int32 := fun q => if 4 * f ≤ q ∧ q < 4 * f + n then src (it - 1 - (q - 4 * f)) else a q
def gp_bf (G : gc_G) (p : Nat) : Nat := p - gg_s G p
def gp_cm (k u v : Int32) : Int32 := if k = 6 then u + v else if k = 7 then u - v else if k = 8 then u * v else if k = 9 then (if v ≤ u then 0 else 1) else (if u = v then 1 else 0)
/-- kinds and operands of the tokens of definition d -/
def gp_K (G : gc_G) (lc : Nat → Nat) (d p : Nat) : Prop :=
  gg_k G p = 1 ∨ (gg_k G p = 2 ∧ ∃ a, a < gg_ar G d ∧ gg_v G p = nI a) ∨ (gg_k G p = 3 ∧ ∃ a, a < lc d ∧ gg_v G p = nI a) ∨ (gg_k G p = 4 ∧ ∃ a, a < 8 ∧ gg_v G p = nI a) ∨
  ((gg_k G p = 5 ∨ gc_op (gg_k G p)) ∧ 1 ≤ p ∧ gg_T G d (p - 1) ∧ gg_s G (p - 1) ≤ p - 1 ∧ gg_T G d (gp_bf G (p - 1))) ∨
  (gg_k G p = 11 ∧ 1 ≤ p ∧ gg_T G d (p - 1) ∧ gg_s G (p - 1) ≤ p - 1 ∧ gg_T G d (gp_bf G (p - 1)) ∧ gg_s G (gp_bf G (p - 1)) ≤ gp_bf G (p - 1) ∧ gg_T G d (gp_bf G (gp_bf G (p - 1))))
def gp_P (G : gc_G) (us : Nat → Prop) (lc : Nat → Nat) (rt : Nat → Nat → Nat) : Prop :=
  (gg_D G ≤ 200 ∧ gg_L G ≤ 4000 ∧ ∀ d, gg_ar G d ≤ 4) ∧ (∀ d, d < 8 → us d → lc d ≤ 3 ∧ gg_T G d (rt d (lc d)) ∧ ∀ i, i < lc d → gg_T G d (rt d i)) ∧ ∀ d p, gg_T G d p → d < 8 ∧ us d ∧ p < 216 ∧ gp_K G lc d p
def gp_1 (G : gc_G) : Prop := ∀ {it fr pd hi : Nat} {vv fm : Int32} {iS iA iB iF aE aF : Nat → Int32} {e : Nat}, gp_B G it fr pd hi → e < 240 → ¬ pd + 1 ≤ gg_L G → gg_r G (it, fr, pd, hi, 0, 0, 0, vv, nI e, fm, iS, iA, iB, iF, aE, aF) (it, fr, pd + 1, hi, 3, 0, 0, vv, nI e, fm, iS, iA, iB, iF, aE, aF)
def gp_2 (G : gc_G) : Prop := ∀ {it fr pd hi : Nat} {vv fm : Int32} {iS iA iB iF aE aF : Nat → Int32} {e : Nat}, gp_B G it fr pd hi → e < 240 → pd + 1 ≤ gg_L G → gg_k G e = 1 → gg_r G (it, fr, pd, hi, 0, 0, 0, vv, nI e, fm, iS, iA, iB, iF, aE, aF) (it, fr, pd + 1, hi, 0, 0, 1, gg_v G e, nI e, fm, iS, iA, iB, iF, aE, aF)
def gp_3 (G : gc_G) : Prop := ∀ {it fr pd hi : Nat} {vv : Int32} {iS iA iB iF aE aF : Nat → Int32} {e a g : Nat}, gp_B G it fr pd hi → e < 240 → pd + 1 ≤ gg_L G → gg_k G e = 2 → gg_v G e = nI a → a < 4 → g < fr → gg_r G (it, fr, pd, hi, 0, 0, 0, vv, nI e, nI g, iS, iA, iB, iF, aE, aF) (it, fr, pd + 1, hi, 0, 0, 0, vv, aE (4 * g + a), aF (4 * g + a), iS, iA, iB, iF, aE, aF)
def gp_4 (G : gc_G) (lc : Nat → Nat) (rt : Nat → Nat → Nat) : Prop := ∀ {it fr pd hi : Nat} {vv fm : Int32} {iS iA iB iF aE aF : Nat → Int32} {e a d : Nat}, gp_B G it fr pd hi → e < 240 → pd + 1 ≤ gg_L G → gg_T G d e → gg_k G e = 3 → gg_v G e = nI a → a < lc d → gg_r G (it, fr, pd, hi, 0, 0, 0, vv, nI e, fm, iS, iA, iB, iF, aE, aF) (it, fr, pd + 1, hi, 0, 0, 0, vv, nI (rt d a), fm, iS, iA, iB, iF, aE, aF)
def gp_5 (G : gc_G) (us : Nat → Prop) : Prop := ∀ {it fr pd hi : Nat} {vv fm : Int32} {iS iA iB iF aE aF : Nat → Int32} {e d : Nat}, gp_B G it fr pd hi → e < 240 → pd + 1 ≤ gg_L G → gg_k G e = 4 → gg_v G e = nI d → d < 8 → ¬ us d → gg_r G (it, fr, pd, hi, 0, 0, 0, vv, nI e, fm, iS, iA, iB, iF, aE, aF) (it, fr, pd + 1, hi, 6, 0, 0, vv, nI e, fm, iS, iA, iB, iF, aE, aF)
def gp_6 (G : gc_G) (us : Nat → Prop) : Prop := ∀ {it fr pd hi : Nat} {vv fm : Int32} {iS iA iB iF aE aF : Nat → Int32} {e d k : Nat}, gp_B G it fr pd hi → e < 240 → pd + 1 ≤ gg_L G → gg_k G e = 4 → gg_v G e = nI d → d < 8 → us d → k ≤ it → (∀ j, j < k → iS (it - 1 - j) = 1) → (k = it ∨ ¬ iS (it - 1 - k) = 1) → k < gg_ar G d →
  gg_r G (it, fr, pd, hi, 0, 0, 0, vv, nI e, fm, iS, iA, iB, iF, aE, aF) (it, fr, pd + 1, hi, if k = it then 2 else 5, if k = it then nI (gg_ar G d - k) else 0, 0, vv, nI e, fm, iS, iA, iB, iF, aE, aF)
def gp_7 (G : gc_G) (us : Nat → Prop) : Prop := ∀ {it fr pd hi : Nat} {vv fm : Int32} {iS iA iB iF aE aF : Nat → Int32} {e d : Nat}, gp_B G it fr pd hi → e < 240 → pd + 1 ≤ gg_L G → gg_k G e = 4 → gg_v G e = nI d → d < 8 → us d → gg_ar G d ≤ it → (∀ j, j < gg_ar G d → iS (it - 1 - j) = 1) → ¬ pd + 33 ≤ gg_L G →
  gg_r G (it, fr, pd, hi, 0, 0, 0, vv, nI e, fm, iS, iA, iB, iF, aE, aF) (it, fr, pd + 33, hi, 3, 0, 0, vv, nI e, fm, iS, iA, iB, iF, aE, aF)
def gp_8 (G : gc_G) (us : Nat → Prop) (lc : Nat → Nat) (rt : Nat → Nat → Nat) : Prop := ∀ {it fr pd hi : Nat} {vv fm : Int32} {iS iA iB iF aE aF : Nat → Int32} {e d : Nat}, gp_B G it fr pd hi → e < 240 → gg_k G e = 4 → gg_v G e = nI d → d < 8 → us d → gg_ar G d ≤ it → (∀ j, j < gg_ar G d → iS (it - 1 - j) = 1) → pd + 33 ≤ gg_L G →
  gg_r G (it, fr, pd, hi, 0, 0, 0, vv, nI e, fm, iS, iA, iB, iF, aE, aF) (it - gg_ar G d, fr + 1, pd + 33, hi, 0, 0, 0, vv, nI (rt d (lc d)), nI fr, iS, iA, iB, iF, gp_mv aE iA fr (gg_ar G d) it, gp_mv aF iF fr (gg_ar G d) it)
def gp_9 (G : gc_G) : Prop := ∀ {it fr pd hi : Nat} {vv fm : Int32} {iS iA iB iF aE aF : Nat → Int32} {e d f : Nat}, gp_B G it fr pd hi → e < 240 → pd + 1 ≤ gg_L G → gg_T G d e → (gg_k G e = 5 ∨ gc_op (gg_k G e) ∨ gg_k G e = 11) → (gg_k G e = 5 → gg_k G (e - 1) = 2 → fm = nI f ∧ f < fr) → ¬ it < gg_D G → ∃ x, gg_r G (it, fr, pd, hi, 0, 0, 0, vv, nI e, fm, iS, iA, iB, iF, aE, aF) (it, fr, pd + 1, hi, 3, 0, 0, vv, x, fm, iS, iA, iB, iF, aE, aF)
def gp_10 (G : gc_G) : Prop := ∀ {it fr pd hi : Nat} {vv : Int32} {iS iA iB iF aE aF : Nat → Int32} {e d a g : Nat}, gp_B G it fr pd hi → e < 240 → pd + 1 ≤ gg_L G → gg_T G d e → gg_k G e = 5 → gg_k G (e - 1) = 2 → gg_v G (e - 1) = nI a → a < 4 → g < fr → it < gg_D G →
  gg_r G (it, fr, pd, hi, 0, 0, 0, vv, nI e, nI g, iS, iA, iB, iF, aE, aF) (it + 1, fr, pd + 1, gp_hx hi (it + 1), 0, 0, 0, vv, nI (gp_bf G (e - 1)), nI g, upd iS it 1, upd iA it (aE (4 * g + a)), upd iB it 0, upd iF it (aF (4 * g + a)), aE, aF)
def gp_11 (G : gc_G) : Prop := ∀ {it fr pd hi : Nat} {vv fm : Int32} {iS iA iB iF aE aF : Nat → Int32} {e d : Nat}, gp_B G it fr pd hi → e < 240 → pd + 1 ≤ gg_L G → gg_T G d e → gg_k G e = 5 → ¬ gg_k G (e - 1) = 2 → it < gg_D G →
  gg_r G (it, fr, pd, hi, 0, 0, 0, vv, nI e, fm, iS, iA, iB, iF, aE, aF) (it + 1, fr, pd + 1, gp_hx hi (it + 1), 0, 0, 0, vv, nI (gp_bf G (e - 1)), fm, upd iS it 1, upd iA it (nI (e - 1)), upd iB it 0, upd iF it fm, aE, aF)
def gp_12 (G : gc_G) : Prop := ∀ {it fr pd hi : Nat} {vv fm : Int32} {iS iA iB iF aE aF : Nat → Int32} {e d : Nat}, gp_B G it fr pd hi → e < 240 → pd + 1 ≤ gg_L G → gg_T G d e → gc_op (gg_k G e) → it < gg_D G →
  gg_r G (it, fr, pd, hi, 0, 0, 0, vv, nI e, fm, iS, iA, iB, iF, aE, aF) (it + 1, fr, pd + 1, gp_hx hi (it + 1), 0, 0, 0, vv, nI (gp_bf G (e - 1)), fm, upd iS it 2, upd iA it (gg_k G e), upd iB it (nI (e - 1)), upd iF it fm, aE, aF)
def gp_13 (G : gc_G) : Prop := ∀ {it fr pd hi : Nat} {vv fm : Int32} {iS iA iB iF aE aF : Nat → Int32} {e d : Nat}, gp_B G it fr pd hi → e < 240 → pd + 1 ≤ gg_L G → gg_T G d e → gg_k G e = 11 → it < gg_D G →
  gg_r G (it, fr, pd, hi, 0, 0, 0, vv, nI e, fm, iS, iA, iB, iF, aE, aF) (it + 1, fr, pd + 1, gp_hx hi (it + 1), 0, 0, 0, vv, nI (gp_bf G (gp_bf G (e - 1))), fm, upd iS it 4, upd iA it (nI (gp_bf G (e - 1))), upd iB it (nI (e - 1)), upd iF it fm, aE, aF)
def gp_14 (G : gc_G) : Prop := ∀ {it fr pd hi : Nat} {vv ex fm : Int32} {iS iA iB iF aE aF : Nat → Int32}, gp_B G it fr pd hi → it = 0 → gg_r G (it, fr, pd, hi, 0, 0, 1, vv, ex, fm, iS, iA, iB, iF, aE, aF) (it, fr, pd, hi, 1, vv, 1, vv, ex, fm, iS, iA, iB, iF, aE, aF)
def gp_15 (G : gc_G) : Prop := ∀ {it fr pd hi : Nat} {vv ex fm : Int32} {iS iA iB iF aE aF : Nat → Int32}, gp_B G it fr pd hi → 0 < it → iS (it - 1) = 1 → gg_r G (it, fr, pd, hi, 0, 0, 1, vv, ex, fm, iS, iA, iB, iF, aE, aF) (it, fr, pd, hi, 4, 0, 1, vv, ex, fm, iS, iA, iB, iF, aE, aF)
def gp_16 (G : gc_G) : Prop := ∀ {it fr pd hi : Nat} {vv ex fm : Int32} {iS iA iB iF aE aF : Nat → Int32}, gp_B G it fr pd hi → 0 < it → iS (it - 1) = 2 → gg_r G (it, fr, pd, hi, 0, 0, 1, vv, ex, fm, iS, iA, iB, iF, aE, aF) (it, fr, pd, hi, 0, 0, 0, vv, iB (it - 1), iF (it - 1), upd iS (it - 1) 3, iA, upd iB (it - 1) vv, iF, aE, aF)
def gp_17 (G : gc_G) : Prop := ∀ {it fr pd hi : Nat} {vv ex fm : Int32} {iS iA iB iF aE aF : Nat → Int32}, gp_B G it fr pd hi → 0 < it → iS (it - 1) = 3 → gg_r G (it, fr, pd, hi, 0, 0, 1, vv, ex, fm, iS, iA, iB, iF, aE, aF) (it - 1, fr, pd, hi, 0, 0, 1, gp_cm (iA (it - 1)) (iB (it - 1)) vv, ex, fm, iS, iA, iB, iF, aE, aF)
def gp_18 (G : gc_G) : Prop := ∀ {it fr pd hi : Nat} {vv ex fm : Int32} {iS iA iB iF aE aF : Nat → Int32}, gp_B G it fr pd hi → 0 < it → iS (it - 1) = 4 → gg_r G (it, fr, pd, hi, 0, 0, 1, vv, ex, fm, iS, iA, iB, iF, aE, aF) (it - 1, fr, pd, hi, 0, 0, 0, vv, if vv = 0 then iB (it - 1) else iA (it - 1), iF (it - 1), iS, iA, iB, iF, aE, aF)
def gp_R (G : gc_G) (us : Nat → Prop) (lc : Nat → Nat) (rt : Nat → Nat → Nat) : Prop :=
  gc_RT G ∧ gp_P G us lc rt ∧ gp_1 G ∧ gp_2 G ∧ gp_3 G ∧ gp_4 G lc rt ∧ gp_5 G us ∧ gp_6 G us ∧ gp_7 G us ∧ gp_8 G us lc rt ∧ gp_9 G ∧ gp_10 G ∧ gp_11 G ∧ gp_12 G ∧ gp_13 G ∧ gp_14 G ∧ gp_15 G ∧ gp_16 G ∧ gp_17 G ∧ gp_18 G

section V
variable {G : gc_G} {us : Nat → Prop} {lc : Nat → Nat} {rt : Nat → Nat → Nat} {H : gc_H} {xs xa xb xs2 xa2 xb2 : Nat → Int32} {b ix e f d : Nat} {v : Int32}
theorem gp_b {m : Nat → Nat} {it fr pd hi P : Nat} {en ou : Int32} {aE aF : Nat → Int32} (h : gc_OK G H m it fr pd hi en ou aE aF P) (hp : pd ≤ P) : gp_B G it fr pd hi := by
  obtain ⟨o1, o2, o3, o4, o5, o6, o7⟩ := h
  exact ⟨o3, o4, Nat.le_trans hp o5, o6⟩
/-- a reading that can't be paid -/
theorem gp_lim (R : gp_R G us lc rt) {m : Nat → Nat} {y : gc_Y} {b' P : Nat} (h : gc_CF G H m (gc_cR e f) xs xa xb b ix y b' P) (hp : ¬ P + 1 ≤ gg_L G) : ∃ y', gg_r G y y' ∧ gc_LM y' := by
  obtain ⟨hRT, ⟨⟨hD, hL, hA⟩, _⟩, r1, _⟩ := R
  obtain ⟨it, fr, pd, hi, en, ou, gv, vv, ex, fm, iS, iA, iB, iF, aE, aF⟩ := y
  obtain ⟨o, ⟨c1, c2, c3, c4⟩, h3, h4⟩ := h
  have hb := gp_b o (Nat.le_of_eq c4)
  obtain ⟨rfl, rfl, o3, o4, o5, o6, o7⟩ := o
  subst c1 c2 c4
  exact ⟨_, r1 hb c3.1 hp, And.intro rfl (And.intro rfl (And.intro (by omega) (by omega)))⟩
theorem gp_sNum (R : gp_R G us lc rt) (hk : gg_k G e = 1) : gc_ST G H (gc_cR e f) xs xa xb b ix (gc_cV (gg_v G e)) xs xa xb ix 1 ix := by
  intro H' m y b' P hle hcf
  refine ⟨fun p1 p2 => ?_, fun z => ?_⟩
  · obtain ⟨hRT, ⟨⟨hD, hL, hA⟩, _⟩, r1, r2, _⟩ := R
    obtain ⟨it, fr, pd, hi, en, ou, gv, vv, ex, fm, iS, iA, iB, iF, aE, aF⟩ := y
    obtain ⟨o, ⟨c1, c2, c3, c4⟩, h3, h4⟩ := hcf
    have hb := gp_b o (Nat.le_of_eq c4)
    obtain ⟨rfl, rfl, o3, o4, o5, o6, o7⟩ := o
    subst c1 c2 c4
    exact ⟨m, _, r2 hb c3.1 p1 hk, And.intro ⟨rfl, rfl, o3, o4, p1, by omega, o7⟩ (And.intro ⟨rfl, rfl, rfl⟩ (And.intro h3 h4)), And.intro ⟨Nat.le_refl _, fun _ _ => rfl, fun _ _ => ⟨rfl, rfl, rfl, rfl⟩⟩ ⟨Nat.le_refl _, by omega, Or.inl rfl⟩⟩
  · refine gp_lim R hcf (fun w => z ⟨w, ?_⟩)
    obtain ⟨it, fr, pd, hi, en, ou, gv, vv, ex, fm, iS, iA, iB, iF, aE, aF⟩ := y
    obtain ⟨⟨o1, o2, o3, o4, o5, o6, o7⟩, h2, h3, h4⟩ := hcf
    omega
end V
end GP
end
section
section GS
theorem gs_hx (hi n : Nat) : gc_Mx (gp_hx hi n) hi n := by
  unfold gc_Mx gp_hx
  split <;> omega
section V
variable {G : gc_G} {us : Nat → Prop} {lc : Nat → Nat} {rt : Nat → Nat → Nat} {H : gc_H} {xs xa xb xs2 xa2 xb2 : Nat → Int32} {b ix e f d : Nat} {v : Int32}
theorem gs_sg {m : Nat → Nat} {fr it b' : Nat} {iS iA iB iF : Nat → Int32} {s a b2 f2 : Int32} (hb : b ≤ ix) (hit : it = b' + (ix - b)) (h : gc_SG G H m fr xs xa xb b (ix - b) b' iS iA iB iF)
    (he : ∀ j, j < ix → xs2 j = xs j ∧ xa2 j = xa j ∧ xb2 j = xb j) (hn : gc_IC G H m fr (xs2 ix) (xa2 ix) (xb2 ix) s a b2 f2) :
    gc_SG G H m fr xs2 xa2 xb2 b (ix + 1 - b) b' (upd iS it s) (upd iA it a) (upd iB it b2) (upd iF it f2) := by
  intro j hj
  by_cases w : j < ix - b
  · obtain ⟨e1, e2, e3⟩ := he (b + j) (by omega)
    rw [pk_un (by omega), pk_un (by omega), pk_un (by omega), pk_un (by omega), e1, e2, e3]
    exact h j w
  · obtain rfl : j = ix - b := by omega
    rw [show b + (ix - b) = ix from by omega, ← hit, pk_us, pk_us, pk_us, pk_us]
    exact hn
theorem gs_kp {m : Nat → Nat} {it fr hi b' : Nat} {iS iA iB iF : Nat → Int32} {s a b2 f2 : Int32} (hb : b ≤ ix) (hit : it = b' + (ix - b)) :
    gc_KP m m b' fr fr iS iA iB iF (upd iS it s) (upd iA it a) (upd iB it b2) (upd iF it f2) ∧ gc_Mx (gp_hx hi (it + 1)) hi (b' + (ix + 1 - b)) := by
  refine ⟨⟨Nat.le_refl _, fun _ _ => rfl, fun j hj => ⟨pk_un (by omega), pk_un (by omega), pk_un (by omega), pk_un (by omega)⟩⟩, ?_⟩
  rw [show b' + (ix + 1 - b) = it + 1 from by omega]
  exact gs_hx hi (it + 1)
theorem gs_Arg (R : gp_R G us lc rt) {a : Nat} (hf : f < gh_nf H) (hk : gg_k G e = 2) (hv : gg_v G e = nI a) (ha : a < gg_ar G (gh_fd H f)) (hn : gh_fa H f a < gh_nn H) :
    gc_ST G H (gc_cR e f) xs xa xb b ix (gc_cR (gh_oT H (gh_fa H f a)) (gh_oF H (gh_fa H f a))) xs xa xb ix 1 ix := by
  intro H' m y b' P hle hcf
  refine ⟨fun p1 p2 => ?_, fun z => ?_⟩
  · obtain ⟨hRT, ⟨⟨hD, hL, hA⟩, _⟩, r1, r2, r3, _⟩ := R
    obtain ⟨it, fr, pd, hi, en, ou, gv, vv, ex, fm, iS, iA, iB, iF, aE, aF⟩ := y
    obtain ⟨o, ⟨c1, c2, c3, c4⟩, h3, h4⟩ := hcf
    have hb := gp_b o (Nat.le_of_eq c4)
    obtain ⟨rfl, rfl, o3, o4, o5, o6, o7, o8⟩ := o
    subst c1 c2 c4
    obtain ⟨c5, c6 | ⟨d1, d2, g, d3, d4, d5⟩⟩ := c3
    · exact absurd (c6.symm.trans hk) (by decide)
    · have hfd := (hle.2.2.1 f hf).1
      have hfa := (hle.2.2.1 f hf).2 a
      have hT := hle.2.2.2 _ hn
      have q := (o7 g d4).2 a (by rw [d5, hfd]; exact ha)
      rw [d5, hfa] at q
      obtain ⟨q1, q2, q3⟩ := q
      rw [hT.1] at q2
      rw [hT.1, hT.2] at q3
      subst d3
      exact ⟨m, _, r3 hb c5 p1 hk hv (Nat.lt_of_lt_of_le ha (hA _)) d4, And.intro ⟨rfl, rfl, o3, o4, p1, by omega, o7, o8⟩ (And.intro ⟨rfl, q2, q3, rfl⟩ (And.intro h3 h4)), And.intro ⟨Nat.le_refl _, fun _ _ => rfl, fun _ _ => ⟨rfl, rfl, rfl, rfl⟩⟩ ⟨Nat.le_refl _, by omega, Or.inl rfl⟩⟩
  · refine gp_lim R hcf (fun w => z ⟨w, ?_⟩)
    obtain ⟨it, fr, pd, hi, en, ou, gv, vv, ex, fm, iS, iA, iB, iF, aE, aF⟩ := y
    obtain ⟨⟨o1, o2, o3, o4, o5, o6, o7⟩, h2, h3, h4⟩ := hcf
    omega
theorem gs_Loc (R : gp_R G us lc rt) {a : Nat} (hf : f < gh_nf H) (hk : gg_k G e = 3) (hv : gg_v G e = nI a) (hT : gg_T G (gh_fd H f) e) (ha : a < lc (gh_fd H f)) :
    gc_ST G H (gc_cR e f) xs xa xb b ix (gc_cR (rt (gh_fd H f) a) f) xs xa xb ix 1 ix := by
  intro H' m y b' P hle hcf
  refine ⟨fun p1 p2 => ?_, fun z => ?_⟩
  · obtain ⟨hRT, ⟨⟨hD, hL, hA⟩, hU, hK⟩, r1, r2, r3, r4, _⟩ := R
    obtain ⟨it, fr, pd, hi, en, ou, gv, vv, ex, fm, iS, iA, iB, iF, aE, aF⟩ := y
    obtain ⟨o, ⟨c1, c2, c3, c4⟩, h3, h4⟩ := hcf
    have hb := gp_b o (Nat.le_of_eq c4)
    obtain ⟨rfl, rfl, o3, o4, o5, o6, o7, o8⟩ := o
    subst c1 c2 c4
    obtain ⟨c5, c6 | ⟨d1, d2, g, d3, d4, d5⟩⟩ := c3
    · exact absurd (c6.symm.trans hk) (by decide)
    · have hfd := (hle.2.2.1 f hf).1
      obtain ⟨k1, k2, k3, _⟩ := hK _ _ hT
      have t1 := (hU _ k1 k2).2.2 a ha
      obtain ⟨_, _, t2, _⟩ := hK _ _ t1
      exact ⟨m, _, r4 hb c5 p1 hT hk hv ha, And.intro ⟨rfl, rfl, o3, o4, p1, by omega, o7, o8⟩ (And.intro ⟨rfl, rfl, ⟨show rt (gh_fd H f) a < 240 by omega, Or.inr ⟨d1, by rw [hfd]; exact t1, g, d3, d4, d5⟩⟩, rfl⟩ (And.intro h3 h4)), And.intro ⟨Nat.le_refl _, fun _ _ => rfl, fun _ _ => ⟨rfl, rfl, rfl, rfl⟩⟩ ⟨Nat.le_refl _, by omega, Or.inl rfl⟩⟩
  · refine gp_lim R hcf (fun w => z ⟨w, ?_⟩)
    obtain ⟨it, fr, pd, hi, en, ou, gv, vv, ex, fm, iS, iA, iB, iF, aE, aF⟩ := y
    obtain ⟨⟨o1, o2, o3, o4, o5, o6, o7⟩, h2, h3, h4⟩ := hcf
    omega
theorem gs_Glo (R : gp_R G us lc rt) (hk : gg_k G e = 4) (hv : gg_v G e = nI d) (hd : d < 8) :
    gc_ST G H (gc_cR e f) xs xa xb b ix (gc_cE d) xs xa xb ix 1 ix := by
  intro H' m y b' P hle hcf
  refine ⟨fun p1 p2 => ?_, fun z => ?_⟩
  · obtain ⟨hRT, ⟨⟨hD, hL, hA⟩, hU, hK⟩, r1, r2, r3, r4, _⟩ := R
    obtain ⟨it, fr, pd, hi, en, ou, gv, vv, ex, fm, iS, iA, iB, iF, aE, aF⟩ := y
    obtain ⟨o, ⟨c1, c2, c3, c4⟩, h3, h4⟩ := hcf
    obtain ⟨rfl, rfl, o3, o4, o5, o6, o7, o8⟩ := o
    exact ⟨m, _, hRT.1 _, And.intro ⟨rfl, rfl, o3, o4, p1, o6, o7, o8⟩ (And.intro ⟨c1, ⟨e, c3.1, c2, hk, hv, hd⟩, by omega⟩ (And.intro h3 h4)), And.intro ⟨Nat.le_refl _, fun _ _ => rfl, fun _ _ => ⟨rfl, rfl, rfl, rfl⟩⟩ ⟨Nat.le_refl _, by omega, Or.inl rfl⟩⟩
  · refine gp_lim R hcf (fun w => z ⟨w, ?_⟩)
    obtain ⟨it, fr, pd, hi, en, ou, gv, vv, ex, fm, iS, iA, iB, iF, aE, aF⟩ := y
    obtain ⟨⟨o1, o2, o3, o4, o5, o6, o7⟩, h2, h3, h4⟩ := hcf
    omega
/-- a push that finds no room, or a reading that can't be paid -/
theorem gs_lim2 (R : gp_R G us lc rt) {H' : gc_H} {m : Nat → Nat} {y : gc_Y} {b' P : Nat} (hb : b ≤ ix) (h : gc_CF G H' m (gc_cR e f) xs xa xb b ix y b' P) (hT : gg_T G d e) (hk : gg_k G e = 5 ∨ gc_op (gg_k G e) ∨ gg_k G e = 11)
    (z : ¬ (P + 1 ≤ gg_L G ∧ b' + (ix + 1 - b) ≤ gg_D G)) : ∃ y', gg_r G y y' ∧ gc_LM y' := by
  by_cases w : P + 1 ≤ gg_L G
  · obtain ⟨hRT, ⟨⟨hD, hL, hA⟩, _⟩, r1, r2, r3, r4, r5, r6, r7, r8, r9, _⟩ := R
    obtain ⟨it, fr, pd, hi, en, ou, gv, vv, ex, fm, iS, iA, iB, iF, aE, aF⟩ := y
    obtain ⟨o, ⟨c1, c2, c3, c4⟩, h3, h4⟩ := h
    have hb := gp_b o (Nat.le_of_eq c4)
    obtain ⟨rfl, rfl, o3, o4, o5, o6, o7⟩ := o
    subst c1 c2 c4
    obtain ⟨c5, c6 | ⟨d1, d2, g, d3, d4, d5⟩⟩ := c3
    · rw [c6] at hk
      rcases hk with hk | ⟨j, j1, j2, j3⟩ | hk
      · exact absurd hk (by decide)
      · exact absurd j3 (ga_ne (a := 1) (by omega) (by omega) (by omega))
      · exact absurd hk (by decide)
    · obtain ⟨x, hx⟩ := r9 (e := e) (d := d) (f := g) (fm := fm) (vv := vv) (iS := iS) (iA := iA) (iB := iB) (iF := iF) (aE := aE) (aF := aF) hb c5 w hT hk (fun _ _ => ⟨d3, d4⟩) (by omega)
      exact ⟨_, hx, And.intro rfl (And.intro rfl (And.intro (by omega) (by omega)))⟩
  · exact gp_lim R h w
/-- a pushing of an argument -/
theorem gs_Ap (R : gp_R G us lc rt) {n : Nat} (hb : b ≤ ix) (hf : f < gh_nf H) (hT : gg_T G (gh_fd H f) e) (hk : gg_k G e = 5) (h8 : 8 ≤ n) (hn : n < gh_nn H)
    (hc : (gg_k G (e - 1) = 2 ∧ ∃ a, gg_v G (e - 1) = nI a ∧ a < gg_ar G (gh_fd H f) ∧ n = gh_fa H f a) ∨ (¬ gg_k G (e - 1) = 2 ∧ gh_oT H n = e - 1 ∧ gh_oF H n = f))
    (he : ∀ j, j < ix → xs2 j = xs j ∧ xa2 j = xa j ∧ xb2 j = xb j) (es : xs2 ix = 0) (ea : xa2 ix = nI n) :
    gc_ST G H (gc_cR e f) xs xa xb b ix (gc_cR (gp_bf G (e - 1)) f) xs2 xa2 xb2 (ix + 1) 1 (ix + 1) := by
  intro H' m y b' P hle hcf
  refine ⟨fun p1 p2 => ?_, fun z => gs_lim2 R hb hcf hT (Or.inl hk) z⟩
  obtain ⟨hRT, ⟨⟨hD, hL, hA⟩, hU, hK⟩, r1, r2, r3, r4, r5, r6, r7, r8, r9, r10, r11, _⟩ := R
  obtain ⟨it, fr, pd, hi, en, ou, gv, vv, ex, fm, iS, iA, iB, iF, aE, aF⟩ := y
  obtain ⟨o, ⟨c1, c2, c3, c4⟩, h3, h4⟩ := hcf
  have hB := gp_b o (Nat.le_of_eq c4)
  obtain ⟨rfl, rfl, o3, o4, o5, o6, o7, o8⟩ := o
  subst c1 c2 c4
  have hfd := (hle.2.2.1 f hf).1
  obtain ⟨k1, k2, k3, k4⟩ := hK _ _ hT
  have k5 : 1 ≤ e ∧ gg_T G (gh_fd H f) (e - 1) ∧ gg_T G (gh_fd H f) (gp_bf G (e - 1)) := by
    unfold gp_K at k4
    rw [hk] at k4
    rcases k4 with k4 | ⟨k4, _⟩ | ⟨k4, _⟩ | ⟨k4, _⟩ | ⟨_, k6, k7, k8, k9⟩ | ⟨k4, _⟩
    · exact absurd k4 (by decide)
    · exact absurd k4 (by decide)
    · exact absurd k4 (by decide)
    · exact absurd k4 (by decide)
    · exact ⟨k6, k7, k9⟩
    · exact absurd k4 (by decide)
  obtain ⟨_, _, t2, _⟩ := hK _ _ k5.2.2
  obtain ⟨_, _, t3, _⟩ := hK _ _ k5.2.1
  obtain ⟨c5, c6 | ⟨d1, d2, g, d3, d4, d5⟩⟩ := c3
  · exact absurd (c6.symm.trans hk) (by decide)
  · have hTn := hle.2.2.2 _ hn
    have hn' := Nat.lt_of_lt_of_le hn hle.2.1
    have oMx := gs_hx hi (it + 1)
    have cc : gc_CC G H' m (gc_cR (gp_bf G (e - 1)) f) fr (pd + 1) 0 vv (nI (gp_bf G (e - 1))) fm (pd + 1) := ⟨rfl, rfl, ⟨show gp_bf G (e - 1) < 240 by omega, Or.inr ⟨d1, by rw [hfd]; exact k5.2.2, g, d3, d4, d5⟩⟩, rfl⟩
    have ok : gc_OK G H' m (it + 1) fr (pd + 1) (gp_hx hi (it + 1)) 0 0 aE aF (pd + 1) := ⟨rfl, rfl, oMx.2.1, by unfold gc_Mx at oMx; omega, p1, by omega, o7, o8⟩
    rcases hc with ⟨q1, a, q2, q3, q4⟩ | ⟨q1, q2, q3⟩
    · have q := (o7 g d4).2 a (by rw [d5, hfd]; exact q3)
      rw [d5, (hle.2.2.1 f hf).2 a, ← q4] at q
      have hic : gc_IC G H' m fr (xs2 ix) (xa2 ix) (xb2 ix) 1 (aE (4 * g + a)) 0 (aF (4 * g + a)) := Or.inl ⟨es, rfl, n, ea, h8, q⟩
      subst d3
      exact ⟨m, _, r10 hB c5 p1 hT hk q1 q2 (Nat.lt_of_lt_of_le q3 (hA _)) d4 (by omega), And.intro ok (And.intro cc (And.intro (by omega) (gs_sg hb h3 h4 he hic))), gs_kp hb h3⟩
    · have hic : gc_IC G H' m fr (xs2 ix) (xa2 ix) (xb2 ix) 1 (nI (e - 1)) 0 fm := by
        refine Or.inl ⟨es, rfl, n, ea, h8, hn', ?_, ?_⟩
        · rw [hTn.1, q2]
        · rw [hTn.1, hTn.2, q2, q3]
          exact ⟨by omega, Or.inr ⟨d1, by rw [hfd]; exact k5.2.1, g, d3, d4, d5⟩⟩
      exact ⟨m, _, r11 hB c5 p1 hT hk q1 (by omega), And.intro ok (And.intro cc (And.intro (by omega) (gs_sg hb h3 h4 he hic))), gs_kp hb h3⟩
theorem gs_Op (R : gp_R G us lc rt) (hb : b ≤ ix) (hf : f < gh_nf H) (hT : gg_T G (gh_fd H f) e) (hk : gc_op (gg_k G e))
    (he : ∀ j, j < ix → xs2 j = xs j ∧ xa2 j = xa j ∧ xb2 j = xb j) (es : xs2 ix = 1) (ea : xa2 ix = nI e) (eb : xb2 ix = nI f) :
    gc_ST G H (gc_cR e f) xs xa xb b ix (gc_cR (gp_bf G (e - 1)) f) xs2 xa2 xb2 (ix + 1) 1 (ix + 1) := by
  intro H' m y b' P hle hcf
  refine ⟨fun p1 p2 => ?_, fun z => gs_lim2 R hb hcf hT (Or.inr (Or.inl hk)) z⟩
  obtain ⟨hRT, ⟨⟨hD, hL, hA⟩, hU, hK⟩, r1, r2, r3, r4, r5, r6, r7, r8, r9, r10, r11, r12, _⟩ := R
  obtain ⟨it, fr, pd, hi, en, ou, gv, vv, ex, fm, iS, iA, iB, iF, aE, aF⟩ := y
  obtain ⟨o, ⟨c1, c2, c3, c4⟩, h3, h4⟩ := hcf
  have hB := gp_b o (Nat.le_of_eq c4)
  obtain ⟨rfl, rfl, o3, o4, o5, o6, o7, o8⟩ := o
  subst c1 c2 c4
  have hfd := (hle.2.2.1 f hf).1
  obtain ⟨k1, k2, k3, k4⟩ := hK _ _ hT
  obtain ⟨j, j1, j2, j3⟩ := id hk
  have k5 : 1 ≤ e ∧ gg_T G (gh_fd H f) (e - 1) ∧ gg_T G (gh_fd H f) (gp_bf G (e - 1)) := by
    unfold gp_K at k4
    rcases k4 with k4 | ⟨k4, _⟩ | ⟨k4, _⟩ | ⟨k4, _⟩ | ⟨_, k6, k7, k8, k9⟩ | ⟨k4, _⟩
    · exact absurd (j3.symm.trans k4) (ga_ne (b := 1) (by omega) (by omega) (by omega))
    · exact absurd (j3.symm.trans k4) (ga_ne (b := 2) (by omega) (by omega) (by omega))
    · exact absurd (j3.symm.trans k4) (ga_ne (b := 3) (by omega) (by omega) (by omega))
    · exact absurd (j3.symm.trans k4) (ga_ne (b := 4) (by omega) (by omega) (by omega))
    · exact ⟨k6, k7, k9⟩
    · exact absurd (j3.symm.trans k4) (ga_ne (b := 11) (by omega) (by omega) (by omega))
  obtain ⟨_, _, t2, _⟩ := hK _ _ k5.2.2
  obtain ⟨c5, c6 | ⟨d1, d2, g, d3, d4, d5⟩⟩ := c3
  · exact absurd (j3.symm.trans c6) (ga_ne (b := 1) (by omega) (by omega) (by omega))
  · have oMx := gs_hx hi (it + 1)
    have cc : gc_CC G H' m (gc_cR (gp_bf G (e - 1)) f) fr (pd + 1) 0 vv (nI (gp_bf G (e - 1))) fm (pd + 1) := ⟨rfl, rfl, ⟨show gp_bf G (e - 1) < 240 by omega, Or.inr ⟨d1, by rw [hfd]; exact k5.2.2, g, d3, d4, d5⟩⟩, rfl⟩
    have ok : gc_OK G H' m (it + 1) fr (pd + 1) (gp_hx hi (it + 1)) 0 0 aE aF (pd + 1) := ⟨rfl, rfl, oMx.2.1, by unfold gc_Mx at oMx; omega, p1, by omega, o7, o8⟩
    have hic : gc_IC G H' m fr (xs2 ix) (xa2 ix) (xb2 ix) 2 (gg_k G e) (nI (e - 1)) fm := Or.inr (Or.inl ⟨es, rfl, e, f, g, ea, eb, d1, by rw [hfd]; exact hT, hk, rfl, rfl, d3, d4, d5⟩)
    exact ⟨m, _, r12 hB c5 p1 hT hk (by omega), And.intro ok (And.intro cc (And.intro (by omega) (gs_sg hb h3 h4 he hic))), gs_kp hb h3⟩
theorem gs_If (R : gp_R G us lc rt) (hb : b ≤ ix) (hf : f < gh_nf H) (hT : gg_T G (gh_fd H f) e) (hk : gg_k G e = 11)
    (he : ∀ j, j < ix → xs2 j = xs j ∧ xa2 j = xa j ∧ xb2 j = xb j) (es : xs2 ix = 3) (ea : xa2 ix = nI e) (eb : xb2 ix = nI f) :
    gc_ST G H (gc_cR e f) xs xa xb b ix (gc_cR (gp_bf G (gp_bf G (e - 1))) f) xs2 xa2 xb2 (ix + 1) 1 (ix + 1) := by
  intro H' m y b' P hle hcf
  refine ⟨fun p1 p2 => ?_, fun z => gs_lim2 R hb hcf hT (Or.inr (Or.inr hk)) z⟩
  obtain ⟨hRT, ⟨⟨hD, hL, hA⟩, hU, hK⟩, r1, r2, r3, r4, r5, r6, r7, r8, r9, r10, r11, r12, r13, _⟩ := R
  obtain ⟨it, fr, pd, hi, en, ou, gv, vv, ex, fm, iS, iA, iB, iF, aE, aF⟩ := y
  obtain ⟨o, ⟨c1, c2, c3, c4⟩, h3, h4⟩ := hcf
  have hB := gp_b o (Nat.le_of_eq c4)
  obtain ⟨rfl, rfl, o3, o4, o5, o6, o7, o8⟩ := o
  subst c1 c2 c4
  have hfd := (hle.2.2.1 f hf).1
  obtain ⟨k1, k2, k3, k4⟩ := hK _ _ hT
  have k5 : gg_T G (gh_fd H f) (gp_bf G (gp_bf G (e - 1))) := by
    unfold gp_K at k4
    rcases k4 with k4 | ⟨k4, _⟩ | ⟨k4, _⟩ | ⟨k4, _⟩ | ⟨k4 | ⟨j, j1, j2, j3⟩, _⟩ | ⟨_, k6, k7, k8, k9, k10, k11⟩
    · exact absurd (hk.symm.trans k4) (by decide)
    · exact absurd (hk.symm.trans k4) (by decide)
    · exact absurd (hk.symm.trans k4) (by decide)
    · exact absurd (hk.symm.trans k4) (by decide)
    · exact absurd (hk.symm.trans k4) (by decide)
    · exact absurd (j3.symm.trans hk) (ga_ne (b := 11) (by omega) (by omega) (by omega))
    · exact k11
  obtain ⟨_, _, t2, _⟩ := hK _ _ k5
  obtain ⟨c5, c6 | ⟨d1, d2, g, d3, d4, d5⟩⟩ := c3
  · exact absurd (hk.symm.trans c6) (by decide)
  · have oMx := gs_hx hi (it + 1)
    have cc : gc_CC G H' m (gc_cR (gp_bf G (gp_bf G (e - 1))) f) fr (pd + 1) 0 vv (nI (gp_bf G (gp_bf G (e - 1)))) fm (pd + 1) := ⟨rfl, rfl, ⟨show gp_bf G (gp_bf G (e - 1)) < 240 by omega, Or.inr ⟨d1, by rw [hfd]; exact k5, g, d3, d4, d5⟩⟩, rfl⟩
    have ok : gc_OK G H' m (it + 1) fr (pd + 1) (gp_hx hi (it + 1)) 0 0 aE aF (pd + 1) := ⟨rfl, rfl, oMx.2.1, by unfold gc_Mx at oMx; omega, p1, by omega, o7, o8⟩
    have hic : gc_IC G H' m fr (xs2 ix) (xa2 ix) (xb2 ix) 4 (nI (gp_bf G (e - 1))) (nI (e - 1)) fm := Or.inr (Or.inr (Or.inr ⟨es, rfl, e, f, g, ea, eb, d1, by rw [hfd]; exact hT, hk, rfl, rfl, d3, d4, d5⟩))
    exact ⟨m, _, r13 hB c5 p1 hT hk (by omega), And.intro ok (And.intro cc (And.intro (by omega) (gs_sg hb h3 h4 he hic))), gs_kp hb h3⟩
end V
end GS
end
section
section GV
section V
variable {G : gc_G} {us : Nat → Prop} {lc : Nat → Nat} {rt : Nat → Nat → Nat} {H : gc_H} {xs xa xb xs2 xa2 xb2 : Nat → Int32} {b ix e f d p : Nat} {v : Int32}
theorem gv_top {m : Nat → Nat} {fr it b' : Nat} {iS iA iB iF : Nat → Int32} (hb : b < ix) (hit : it = b' + (ix - b)) (h : gc_SG G H m fr xs xa xb b (ix - b) b' iS iA iB iF) {i : Nat} (hi : i < ix - b) :
    gc_IC G H m fr (xs (ix - 1 - i)) (xa (ix - 1 - i)) (xb (ix - 1 - i)) (iS (it - 1 - i)) (iA (it - 1 - i)) (iB (it - 1 - i)) (iF (it - 1 - i)) := by
  have := h (ix - b - 1 - i) (by omega)
  rw [show b + (ix - b - 1 - i) = ix - 1 - i from by omega, show b' + (ix - b - 1 - i) = it - 1 - i from by omega] at this
  exact this
theorem gv_0 {m : Nat → Nat} {fr : Nat} {s a b ys ya yb yf : Int32} (h : gc_IC G H m fr s a b ys ya yb yf) (hs : s = 0) : ys = 1 ∧ ∃ n, a = nI n ∧ 8 ≤ n ∧ gc_CL G H m fr ya yf n := by
  subst hs
  rcases h with ⟨_, h2, h3⟩ | ⟨h, _⟩ | ⟨h, _⟩ | ⟨h, _⟩
  · exact ⟨h2, h3⟩
  · exact absurd h (by decide)
  · exact absurd h (by decide)
  · exact absurd h (by decide)
theorem gv_n0 {m : Nat → Nat} {fr : Nat} {s a b ys ya yb yf : Int32} (h : gc_IC G H m fr s a b ys ya yb yf) (hs : ¬ s = 0) : ¬ ys = 1 := by
  rcases h with ⟨h, _⟩ | ⟨_, h, _⟩ | ⟨_, h, _⟩ | ⟨_, h, _⟩
  · exact absurd h hs
  · rw [h]; decide
  · rw [h]; decide
  · rw [h]; decide
theorem gv_Lft (R : gp_R G us lc rt) (hb : b < ix) (hf : f < gh_nf H) (hT : gg_T G (gh_fd H f) p) (hk : gc_op (gg_k G p)) (es : xs (ix - 1) = 1) (ea : xa (ix - 1) = nI p) (eb : xb (ix - 1) = nI f)
    (he : ∀ j, j < ix - 1 → xs2 j = xs j ∧ xa2 j = xa j ∧ xb2 j = xb j) (es2 : xs2 (ix - 1) = 2) (ea2 : xa2 (ix - 1) = nI p) (eb2 : xb2 (ix - 1) = v) :
    gc_ST G H (gc_cV v) xs xa xb b ix (gc_cR (p - 1) f) xs2 xa2 xb2 ix 0 ix := by
  intro H' m y b' P hle hcf
  obtain ⟨it, fr, pd, hi, en, ou, gv, vv, ex, fm, iS, iA, iB, iF, aE, aF⟩ := y
  obtain ⟨o, ⟨c1, c2, c3⟩, h3, h4⟩ := hcf
  have hB := gp_b o (Nat.le_of_eq c3)
  obtain ⟨rfl, rfl, o3, o4, o5, o6, o7, o8, o9⟩ := o
  refine ⟨fun p1 p2 => ?_, fun z => absurd ⟨o5, by omega⟩ z⟩
  obtain ⟨hRT, ⟨⟨hD, hL, hA⟩, hU, hK⟩, r1, r2, r3, r4, r5, r6, r7, r8, r9, r10, r11, r12, r13, r14, r15, r16, _⟩ := R
  subst c1 c2 c3
  have hfd := (hle.2.2.1 f hf).1
  obtain ⟨k1, k2, k3, k4⟩ := hK _ _ hT
  obtain ⟨j, j1, j2, j3⟩ := id hk
  have k5 : 1 ≤ p ∧ gg_T G (gh_fd H f) (p - 1) := by
    unfold gp_K at k4
    rcases k4 with k4 | ⟨k4, _⟩ | ⟨k4, _⟩ | ⟨k4, _⟩ | ⟨_, k6, k7, k8, k9⟩ | ⟨k4, _⟩
    · exact absurd (j3.symm.trans k4) (ga_ne (b := 1) (by omega) (by omega) (by omega))
    · exact absurd (j3.symm.trans k4) (ga_ne (b := 2) (by omega) (by omega) (by omega))
    · exact absurd (j3.symm.trans k4) (ga_ne (b := 3) (by omega) (by omega) (by omega))
    · exact absurd (j3.symm.trans k4) (ga_ne (b := 4) (by omega) (by omega) (by omega))
    · exact ⟨k6, k7⟩
    · exact absurd (j3.symm.trans k4) (ga_ne (b := 11) (by omega) (by omega) (by omega))
  have hic := gv_top hb h3 h4 (i := 0) (by omega)
  rw [Nat.sub_zero, Nat.sub_zero, es, ea, eb] at hic
  rcases hic with ⟨h, _⟩ | ⟨_, i1, p', f', g, i2, i3, i4, i5, i6, i7, i8, i9, i10, i11⟩ | ⟨h, _⟩ | ⟨h, _⟩
  · exact absurd h (by decide)
  · have t1 := (hK _ _ i5).2.2.1
    obtain rfl : p = p' := ga_inj i2 (by omega) (by omega)
    have hf' := Nat.lt_of_lt_of_le hf hle.1
    obtain rfl : f = f' := ga_inj i3 (by omega) (by omega)
    refine ⟨m, _, r16 hB (by omega) i1, And.intro ⟨rfl, rfl, o3, o4, o5, o6, o7, o8, o9⟩ (And.intro ⟨rfl, i8, ⟨show p - 1 < 240 by omega, Or.inr ⟨hf', by rw [hfd]; exact k5.2, g, i9, i10, i11⟩⟩, rfl⟩ (And.intro h3 ?_)), ?_⟩
    · intro j hj
      by_cases w : j < ix - 1 - b
      · obtain ⟨e1, e2, e3⟩ := he (b + j) (by omega)
        rw [e1, e2, e3, pk_un (by omega), pk_un (by omega)]
        exact h4 j hj
      · obtain rfl : j = ix - 1 - b := by omega
        rw [show b + (ix - 1 - b) = ix - 1 from by omega, show b' + (ix - 1 - b) = it - 1 from by omega, pk_us, pk_us, es2, ea2, eb2]
        exact Or.inr (Or.inr (Or.inl ⟨rfl, rfl, p, rfl, k3, hk, i7, rfl⟩))
    · exact And.intro ⟨Nat.le_refl _, fun _ _ => rfl, fun j hj => ⟨pk_un (by omega), rfl, pk_un (by omega), rfl⟩⟩ ⟨Nat.le_refl _, by omega, Or.inl rfl⟩
  · exact absurd h (by decide)
  · exact absurd h (by decide)
theorem gv_Rgt (R : gp_R G us lc rt) (hb : b < ix) (hp : p < 216) (es : xs (ix - 1) = 2) (ea : xa (ix - 1) = nI p) :
    gc_ST G H (gc_cV v) xs xa xb b ix (gc_cV (gp_cm (gg_k G p) (xb (ix - 1)) v)) xs xa xb (ix - 1) 0 ix := by
  intro H' m y b' P hle hcf
  obtain ⟨it, fr, pd, hi, en, ou, gv, vv, ex, fm, iS, iA, iB, iF, aE, aF⟩ := y
  obtain ⟨o, ⟨c1, c2, c3⟩, h3, h4⟩ := hcf
  have hB := gp_b o (Nat.le_of_eq c3)
  obtain ⟨rfl, rfl, o3, o4, o5, o6, o7⟩ := o
  refine ⟨fun p1 p2 => ?_, fun z => absurd ⟨o5, by omega⟩ z⟩
  obtain ⟨hRT, ⟨⟨hD, hL, hA⟩, hU, hK⟩, r1, r2, r3, r4, r5, r6, r7, r8, r9, r10, r11, r12, r13, r14, r15, r16, r17, _⟩ := R
  subst c1 c2 c3
  have hic := gv_top hb h3 h4 (i := 0) (by omega)
  rw [Nat.sub_zero, Nat.sub_zero, es, ea] at hic
  rcases hic with ⟨h, _⟩ | ⟨h, _⟩ | ⟨_, i1, p', i2, i3, i4, i5, i6⟩ | ⟨h, _⟩
  · exact absurd h (by decide)
  · exact absurd h (by decide)
  · obtain rfl : p = p' := ga_inj i2 (by omega) (by omega)
    refine ⟨m, _, r17 hB (by omega) i1, And.intro ⟨rfl, rfl, by omega, o4, o5, o6, o7⟩ (And.intro ⟨rfl, ?_, rfl⟩ (And.intro (by omega) (fun j hj => h4 j (by omega)))), ?_⟩
    · rw [i5, i6]
    · exact And.intro ⟨Nat.le_refl _, fun _ _ => rfl, fun j hj => ⟨rfl, rfl, rfl, rfl⟩⟩ ⟨Nat.le_refl _, by omega, Or.inl rfl⟩
  · exact absurd h (by decide)
theorem gv_Cho (R : gp_R G us lc rt) (hb : b < ix) (hf : f < gh_nf H) (hT : gg_T G (gh_fd H f) p) (hk : gg_k G p = 11) (es : xs (ix - 1) = 3) (ea : xa (ix - 1) = nI p) (eb : xb (ix - 1) = nI f) :
    gc_ST G H (gc_cV v) xs xa xb b ix (gc_cR (if v = 0 then p - 1 else gp_bf G (p - 1)) f) xs xa xb (ix - 1) 0 ix := by
  intro H' m y b' P hle hcf
  obtain ⟨it, fr, pd, hi, en, ou, gv, vv, ex, fm, iS, iA, iB, iF, aE, aF⟩ := y
  obtain ⟨o, ⟨c1, c2, c3⟩, h3, h4⟩ := hcf
  have hB := gp_b o (Nat.le_of_eq c3)
  obtain ⟨rfl, rfl, o3, o4, o5, o6, o7, o8, o9⟩ := o
  refine ⟨fun p1 p2 => ?_, fun z => absurd ⟨o5, by omega⟩ z⟩
  obtain ⟨hRT, ⟨⟨hD, hL, hA⟩, hU, hK⟩, r1, r2, r3, r4, r5, r6, r7, r8, r9, r10, r11, r12, r13, r14, r15, r16, r17, r18⟩ := R
  subst c1 c2 c3
  have hfd := (hle.2.2.1 f hf).1
  obtain ⟨k1, k2, k3, k4⟩ := hK _ _ hT
  have k5 : gg_T G (gh_fd H f) (p - 1) ∧ gg_T G (gh_fd H f) (gp_bf G (p - 1)) := by
    unfold gp_K at k4
    rcases k4 with k4 | ⟨k4, _⟩ | ⟨k4, _⟩ | ⟨k4, _⟩ | ⟨k4 | ⟨j, j1, j2, j3⟩, _⟩ | ⟨_, k6, k7, k8, k9, k10, k11⟩
    · exact absurd (hk.symm.trans k4) (by decide)
    · exact absurd (hk.symm.trans k4) (by decide)
    · exact absurd (hk.symm.trans k4) (by decide)
    · exact absurd (hk.symm.trans k4) (by decide)
    · exact absurd (hk.symm.trans k4) (by decide)
    · exact absurd (j3.symm.trans hk) (ga_ne (b := 11) (by omega) (by omega) (by omega))
    · exact ⟨k7, k9⟩
  have hic := gv_top hb h3 h4 (i := 0) (by omega)
  rw [Nat.sub_zero, Nat.sub_zero, es, ea, eb] at hic
  rcases hic with ⟨h, _⟩ | ⟨h, _⟩ | ⟨h, _⟩ | ⟨_, i1, p', f', g, i2, i3, i4, i5, i6, i7, i8, i9, i10, i11⟩
  · exact absurd h (by decide)
  · exact absurd h (by decide)
  · exact absurd h (by decide)
  · have t1 := (hK _ _ i5).2.2.1
    obtain rfl : p = p' := ga_inj i2 (by omega) (by omega)
    have hf' := Nat.lt_of_lt_of_le hf hle.1
    obtain rfl : f = f' := ga_inj i3 (by omega) (by omega)
    have tt : gg_T G (gh_fd H f) (if vv = 0 then p - 1 else gp_bf G (p - 1)) := by
      split
      · exact k5.1
      · exact k5.2
    have t2 := (hK _ _ tt).2.2.1
    refine ⟨m, _, r18 hB (by omega) i1, And.intro ⟨rfl, rfl, by omega, o4, o5, o6, o7, o8, o9⟩ (And.intro ⟨rfl, ?_, ⟨show (if vv = 0 then p - 1 else gp_bf G (p - 1)) < 240 by omega, Or.inr ⟨hf', by rw [hfd]; exact tt, g, i9, i10, i11⟩⟩, rfl⟩ (And.intro (by omega) (fun j hj => h4 j (by omega)))), ?_⟩
    · show (if vv = 0 then iB (it - 1) else iA (it - 1)) = nI (if vv = 0 then p - 1 else gp_bf G (p - 1))
      split
      · exact i8
      · exact i7
    · exact And.intro ⟨Nat.le_refl _, fun _ _ => rfl, fun j hj => ⟨rfl, rfl, rfl, rfl⟩⟩ ⟨Nat.le_refl _, by omega, Or.inl rfl⟩
theorem gv_Cal (R : gp_R G us lc rt) (hu : us d) (hb : b + gg_ar G d ≤ ix) (hf : f < gh_nf H) (hfd : gh_fd H f = d) (hg : ∀ i, i < gg_ar G d → xs (ix - 1 - i) = 0 ∧ xa (ix - 1 - i) = nI (gh_fa H f i) ∧ gh_fa H f i < gh_nn H) :
    gc_ST G H (gc_cE d) xs xa xb b ix (gc_cR (rt d (lc d)) f) xs xa xb (ix - gg_ar G d) 32 ix := by
  intro H' m y b' P hle hcf
  obtain ⟨it, fr, pd, hi, en, ou, gv, vv, ex, fm, iS, iA, iB, iF, aE, aF⟩ := y
  obtain ⟨o, ⟨c1, ⟨e, c2, c3, c4, c5, c6⟩, c7⟩, h3, h4⟩ := hcf
  have hB := gp_b o (by omega)
  obtain ⟨rfl, rfl, o3, o4, o5, o6, o7, o8, o9⟩ := o
  obtain ⟨hRT, ⟨⟨hD, hL, hA⟩, hU, hK⟩, r1, r2, r3, r4, r5, r6, r7, r8, _⟩ := R
  subst c1 c3
  have hfd' := (hle.2.2.1 f hf).1
  rw [hfd] at hfd'
  have ha4 := hA d
  have ic : ∀ i, i < gg_ar G d → iS (it - 1 - i) = 1 ∧ gc_CL G H' m fr (iA (it - 1 - i)) (iF (it - 1 - i)) (gh_fa H' f i) := by
    intro i hi
    obtain ⟨g1, g2, g3⟩ := hg i hi
    obtain ⟨q1, n, q2, q3, q4⟩ := gv_0 (gv_top (by omega) h3 h4 (i := i) (by omega)) g1
    have q5 := q4.1
    have g4 := Nat.lt_of_lt_of_le g3 hle.2.1
    rw [g2] at q2
    obtain rfl : gh_fa H f i = n := ga_inj q2 (by omega) (by omega)
    rw [(hle.2.2.1 f hf).2 i]
    exact ⟨q1, q4⟩
  refine ⟨fun p1 p2 => ?_, fun z => ?_⟩
  · have tt := (hU d c6 hu).2.1
    have t2 := (hK _ _ tt).2.2.1
    have hf' := Nat.lt_of_lt_of_le hf hle.1
    have hm : ∀ g, g < fr → (fun g => if g = fr then f else m g) g = m g := fun g hg => if_neg (by omega)
    have hmf : (fun g => if g = fr then f else m g) fr = f := if_pos rfl
    refine ⟨fun g => if g = fr then f else m g, _, r8 hB c2 c4 c5 c6 hu (by omega) (fun j hj => (ic j hj).1) (by omega), And.intro ⟨rfl, rfl, by omega, o4, p1, by omega, ?_, o8, o9⟩ (And.intro ⟨rfl, rfl, ⟨show rt d (lc d) < 240 by omega, Or.inr ⟨hf', by rw [hfd']; exact tt, fr, rfl, by omega, hmf⟩⟩, by omega⟩ (And.intro (by omega) ?_)), ?_⟩
    · intro g hg'
      by_cases w : g = fr
      · subst w
        rw [hmf]
        refine ⟨hf', fun i hi => ?_⟩
        rw [hfd'] at hi
        have e1 : gp_mv aE iA g (gg_ar G d) it (4 * g + i) = iA (it - 1 - i) := by
          show (if 4 * g ≤ 4 * g + i ∧ 4 * g + i < 4 * g + gg_ar G d then iA (it - 1 - (4 * g + i - 4 * g)) else _) = _
          rw [if_pos (by omega), show 4 * g + i - 4 * g = i from by omega]
        have e2 : gp_mv aF iF g (gg_ar G d) it (4 * g + i) = iF (it - 1 - i) := by
          show (if 4 * g ≤ 4 * g + i ∧ 4 * g + i < 4 * g + gg_ar G d then iF (it - 1 - (4 * g + i - 4 * g)) else _) = _
          rw [if_pos (by omega), show 4 * g + i - 4 * g = i from by omega]
        rw [e1, e2]
        exact gc_CL_mo (gc_Le_rf _) (by omega) hm (ic i hi).2
      · obtain ⟨q1, q2⟩ := o7 g (by omega)
        rw [hm g (by omega)]
        refine ⟨q1, fun i hi => ?_⟩
        have h5 := hA (gh_fd H' (m g))
        have e1 : gp_mv aE iA fr (gg_ar G d) it (4 * g + i) = aE (4 * g + i) := if_neg (by omega)
        have e2 : gp_mv aF iF fr (gg_ar G d) it (4 * g + i) = aF (4 * g + i) := if_neg (by omega)
        rw [e1, e2]
        exact gc_CL_mo (gc_Le_rf _) (by omega) hm (q2 i hi)
    · intro j hj
      exact gc_IC_mo (gc_Le_rf _) (by omega) hm (h4 j (by omega))
    · exact And.intro ⟨by omega, hm, fun j hj => ⟨rfl, rfl, rfl, rfl⟩⟩ ⟨Nat.le_refl _, by omega, Or.inl rfl⟩
  · exact ⟨_, r7 hB c2 (by omega) c4 c5 c6 hu (by omega) (fun j hj => (ic j hj).1) (fun w => z ⟨by omega, by omega⟩), And.intro rfl (And.intro rfl (And.intro (by omega) (by omega)))⟩
/-- Y's real state -/
def gv_Hi (y : gc_Y) (pk : Nat) : Prop := match y with
  | (it, fr, pd, hi, en, ou, gv, vv, ex, fm, iS, iA, iB, iF, aE, aF) => hi = pk
def gv_FN (y : gc_Y) (E O : Int32) (P pk : Nat) : Prop := match y with
  | (it, fr, pd, hi, en, ou, gv, vv, ex, fm, iS, iA, iB, iF, aE, aF) => en = E ∧ ou = O ∧ pd = P ∧ hi = pk ∧ it ≤ 200 ∧ pd ≤ 4040
def gv_BT (G : gc_G) (H : gc_H) (y0 : gc_Y) (c : gc_C) (xs xa xb : Nat → Int32) (ix P pk : Nat) : Prop :=
  ∃ m y, gg_r G y0 y ∧ gc_CF G H m c xs xa xb 0 ix y 0 P ∧ gv_Hi y pk
theorem gv_go (hR : gc_RT G) {H2 : gc_H} {c c2 : gc_C} {y0 : gc_Y} {ix2 P pk pk2 k hh : Nat} (h : gv_BT G H y0 c xs xa xb ix P pk) (hl : gc_Le H H2) (hb1 : gh_nf H2 ≤ 1000) (hb2 : gh_nn H2 ≤ 5000) (s : gc_ST G H2 c xs xa xb 0 ix c2 xs2 xa2 xb2 ix2 k hh) (h1 : P + k ≤ gg_L G) (h2 : hh ≤ gg_D G) (hm : gc_Mx pk2 pk hh) : gv_BT G H2 y0 c2 xs2 xa2 xb2 ix2 (P + k) pk2 := by
  obtain ⟨m, y, r, f, q⟩ := h
  obtain ⟨m2, y2, r2, f2, q2⟩ := (s H2 m y 0 P (gc_Le_rf _) (gc_CF_mo hl hb1 hb2 f)).1 h1 (by omega)
  refine ⟨m2, y2, hR.2 _ _ _ r r2, f2, ?_⟩
  obtain ⟨it, fr, pd, hi, en, ou, gv, vv, ex, fm, iS, iA, iB, iF, aE, aF⟩ := y
  obtain ⟨it1, fr1, pd1, hi1, en1, ou1, gv1, vv1, ex1, fm1, iS1, iA1, iB1, iF1, aE1, aF1⟩ := y2
  have q' : hi = pk := q
  obtain ⟨_, w⟩ := q2
  show hi1 = pk2
  unfold gc_Mx at *
  omega
theorem gv_lim (hR : gc_RT G) {H2 : gc_H} {c c2 : gc_C} {y0 : gc_Y} {ix2 P pk k hh : Nat} (h : gv_BT G H y0 c xs xa xb ix P pk) (hl : gc_Le H H2) (hb1 : gh_nf H2 ≤ 1000) (hb2 : gh_nn H2 ≤ 5000) (s : gc_ST G H2 c xs xa xb 0 ix c2 xs2 xa2 xb2 ix2 k hh) (hz : ¬ (P + k ≤ gg_L G ∧ hh ≤ gg_D G)) : ∃ y', gg_r G y0 y' ∧ gc_LM y' := by
  obtain ⟨m, y, r, f, q⟩ := h
  obtain ⟨y2, r2, f2⟩ := (s H2 m y 0 P (gc_Le_rf _) (gc_CF_mo hl hb1 hb2 f)).2 (by omega)
  exact ⟨y2, hR.2 _ _ _ r r2, f2⟩
theorem gv_bsy (hR : gc_RT G) {c : gc_C} {y0 : gc_Y} {P pk k hh : Nat} {ys ya yb ys2 ya2 yb2 : Nat → Int32} {j2 : Nat} (h : gv_BT G H y0 c xs xa xb ix P pk) (s : gc_ST G H c ys ya yb b b c ys2 ya2 yb2 j2 k hh) (hk : 1 ≤ k) : ∃ y', gg_r G y0 y' ∧ gc_LM y' := by
  obtain ⟨m, y, r, f, q⟩ := h
  obtain ⟨y2, r2, f2⟩ := gc_busy hR s hk (gg_L G + 1) H m y 0 P _ _ _ _ _ (gc_Le_rf _) (by omega) f
  exact ⟨y2, hR.2 _ _ _ r r2, f2⟩
theorem gv_eVal (R : gp_R G us lc rt) {y0 : gc_Y} {P pk : Nat} (h : gv_BT G H y0 (gc_cV v) xs xa xb 0 P pk) : ∃ y', gg_r G y0 y' ∧ gv_FN y' 1 v P pk := by
  obtain ⟨hRT, ⟨⟨hD, hL, hA⟩, hU, hK⟩, r1, r2, r3, r4, r5, r6, r7, r8, r9, r10, r11, r12, r13, r14, _⟩ := R
  obtain ⟨m, y, r, f, q⟩ := h
  obtain ⟨it, fr, pd, hi, en, ou, gv, vv, ex, fm, iS, iA, iB, iF, aE, aF⟩ := y
  obtain ⟨o, ⟨c1, c2, c3⟩, h3, h4⟩ := f
  have hB := gp_b o (Nat.le_of_eq c3)
  obtain ⟨rfl, rfl, o3, o4, o5, o6, o7⟩ := o
  subst c1 c2 c3
  exact ⟨_, hRT.2 _ _ _ r (r14 hB (by omega)), And.intro rfl (And.intro rfl (And.intro rfl (And.intro q (And.intro (by omega) (by omega)))))⟩
theorem gv_eNf (R : gp_R G us lc rt) {y0 : gc_Y} {P pk : Nat} (h : gv_BT G H y0 (gc_cV v) xs xa xb ix P pk) (hx : 0 < ix) (es : xs (ix - 1) = 0) : ∃ y', gg_r G y0 y' ∧ gv_FN y' 4 0 P pk := by
  obtain ⟨hRT, ⟨⟨hD, hL, hA⟩, hU, hK⟩, r1, r2, r3, r4, r5, r6, r7, r8, r9, r10, r11, r12, r13, r14, r15, _⟩ := R
  obtain ⟨m, y, r, f, q⟩ := h
  obtain ⟨it, fr, pd, hi, en, ou, gv, vv, ex, fm, iS, iA, iB, iF, aE, aF⟩ := y
  obtain ⟨o, ⟨c1, c2, c3⟩, h3, h4⟩ := f
  have hB := gp_b o (Nat.le_of_eq c3)
  obtain ⟨rfl, rfl, o3, o4, o5, o6, o7⟩ := o
  subst c1 c2 c3
  obtain ⟨q1, _⟩ := gv_0 (gv_top hx h3 h4 (i := 0) (by omega)) es
  exact ⟨_, hRT.2 _ _ _ r (r15 hB (by omega) q1), And.intro rfl (And.intro rfl (And.intro rfl (And.intro q (And.intro (by omega) (by omega)))))⟩
theorem gv_eUn (R : gp_R G us lc rt) {y0 : gc_Y} {P pk : Nat} (h : gv_BT G H y0 (gc_cE d) xs xa xb ix P pk) (hu : ¬ us d) : ∃ y', gg_r G y0 y' ∧ gv_FN y' 6 0 P pk := by
  obtain ⟨hRT, ⟨⟨hD, hL, hA⟩, hU, hK⟩, r1, r2, r3, r4, r5, r6, r7, r8, r9, r10, r11, r12, r13, r14, r15, _⟩ := R
  obtain ⟨m, y, r, f, q⟩ := h
  obtain ⟨it, fr, pd, hi, en, ou, gv, vv, ex, fm, iS, iA, iB, iF, aE, aF⟩ := y
  obtain ⟨o, ⟨c1, ⟨e, c2, c3, c4, c5, c6⟩, c7⟩, h3, h4⟩ := f
  have hB := gp_b o (by omega)
  obtain ⟨rfl, rfl, o3, o4, o5, o6, o7⟩ := o
  subst c1 c3
  exact ⟨_, hRT.2 _ _ _ r (r5 hB c2 (by omega) c4 c5 c6 hu), And.intro rfl (And.intro rfl (And.intro c7 (And.intro q (And.intro (by omega) (by omega)))))⟩
theorem gv_eFew (R : gp_R G us lc rt) {y0 : gc_Y} {P pk k : Nat} (h : gv_BT G H y0 (gc_cE d) xs xa xb ix P pk) (hu : us d) (hk : k < gg_ar G d) (hx : k ≤ ix) (hs : ∀ j, j < k → xs (ix - 1 - j) = 0) (ht : k = ix ∨ ¬ xs (ix - 1 - k) = 0) :
    ∃ y', gg_r G y0 y' ∧ gv_FN y' (if k = ix then 2 else 5) (if k = ix then nI (gg_ar G d - k) else 0) P pk := by
  obtain ⟨hRT, ⟨⟨hD, hL, hA⟩, hU, hK⟩, r1, r2, r3, r4, r5, r6, r7, r8, r9, r10, r11, r12, r13, r14, r15, _⟩ := R
  obtain ⟨m, y, r, f, q⟩ := h
  obtain ⟨it, fr, pd, hi, en, ou, gv, vv, ex, fm, iS, iA, iB, iF, aE, aF⟩ := y
  obtain ⟨o, ⟨c1, ⟨e, c2, c3, c4, c5, c6⟩, c7⟩, h3, h4⟩ := f
  have hB := gp_b o (by omega)
  obtain ⟨rfl, rfl, o3, o4, o5, o6, o7⟩ := o
  subst c1 c3
  obtain rfl : it = ix := by omega
  have g1 : ∀ j, j < k → iS (it - 1 - j) = 1 := fun j hj => (gv_0 (gv_top (by omega) h3 h4 (i := j) (by omega)) (hs j hj)).1
  have g2 : k = it ∨ ¬ iS (it - 1 - k) = 1 := by
    by_cases w : k = it
    · exact Or.inl w
    · rcases ht with ht | ht
      · exact Or.inl ht
      · exact Or.inr (gv_n0 (gv_top (by omega) h3 h4 (i := k) (by omega)) ht)
  exact ⟨_, hRT.2 _ _ _ r (r6 hB c2 (by omega) c4 c5 c6 hu hx g1 g2 hk), And.intro rfl (And.intro rfl (And.intro c7 (And.intro q (And.intro (by omega) (by omega)))))⟩
end V
end GV
end
section
section GY
def gy_W (g_defs g_maxTokens g_maxPrice g_draftTarget g_lastResult g_lastPrice g_lastPeak : Int32) (b_kind b_val b_there b_sizes b_arities b_localCounts : Nat → Int32) (D L : Nat) (post : Int32 → SY → Prop) (n x : Nat) (y : gc_Y) : Prop := match y with
  | (it, fr, pd, hi, en, ou, gv, vv, ex, fm, iS, iA, iB, iF, aE, aF) => wY_eval_158 post n (nI x) g_defs g_maxTokens (nI D) g_maxPrice (nI L) g_draftTarget g_lastResult g_lastPrice g_lastPeak (nI it) (nI fr) (nI pd) (nI hi) en ou gv vv ex fm b_kind b_val b_there b_sizes b_arities b_localCounts iS iA iB iF aE aF
def gy_ph (y : gc_Y) : Nat := match y with
  | (it, fr, pd, hi, en, ou, gv, vv, ex, fm, iS, iA, iB, iF, aE, aF) => 2 * pd + (if en = 0 then (if gv = 0 then 1 else 0) else 2)
/-- Y reaches y' from y: whatever the loop asks there, it asks here -/
def gy_r (g_defs g_maxTokens g_maxPrice g_draftTarget g_lastResult g_lastPrice g_lastPeak : Int32) (b_kind b_val b_there b_sizes b_arities b_localCounts : Nat → Int32) (D L : Nat) (y y' : gc_Y) : Prop := ∃ k, k + gy_ph y + gc_it y' ≤ gy_ph y' + gc_it y ∧ ∀ post n x, x + k ≤ 20000 → gy_W g_defs g_maxTokens g_maxPrice g_draftTarget g_lastResult g_lastPrice g_lastPeak b_kind b_val b_there b_sizes b_arities b_localCounts D L post n (x + k) y' → gy_W g_defs g_maxTokens g_maxPrice g_draftTarget g_lastResult g_lastPrice g_lastPeak b_kind b_val b_there b_sizes b_arities b_localCounts D L post (n + k) x y
def gy_P (post : Int32 → SY → Prop) (n x : Nat) (u : SY) : Prop := match u with
  | (g_defs, g_maxTokens, g_depth, g_maxPrice, g_limitNow, g_draftTarget, g_lastResult, g_lastPrice, g_lastPeak, g_items, g_frames, g_paid, g_high, g_ending, g_outcome, g_giving, g_value, g_expr, g_frame, b_kind, b_val, b_there, b_sizes, b_arities, b_localCounts, b_itemSort, b_itemA, b_itemB, b_itemFrame, b_argExpr, b_argFrame) => ∀ z : Int32, z = nI x + 1 → wY_eval_158 post n z g_defs g_maxTokens g_depth g_maxPrice g_limitNow g_draftTarget g_lastResult g_lastPrice g_lastPeak g_items g_frames g_paid g_high g_ending g_outcome g_giving g_value g_expr g_frame b_kind b_val b_there b_sizes b_arities b_localCounts b_itemSort b_itemA b_itemB b_itemFrame b_argExpr b_argFrame
section V
variable {g_defs g_maxTokens g_maxPrice g_draftTarget g_lastResult g_lastPrice g_lastPeak : Int32} {b_kind b_val b_there b_sizes b_arities b_localCounts : Nat → Int32} {D L : Nat} {it fr pd hi : Nat} {en ou gv vv ex fm : Int32} {iS iA iB iF aE aF : Nat → Int32} {post : Int32 → SY → Prop} {n x e : Nat}
theorem gy_r_rf (y : gc_Y) : gy_r g_defs g_maxTokens g_maxPrice g_draftTarget g_lastResult g_lastPrice g_lastPeak b_kind b_val b_there b_sizes b_arities b_localCounts D L y y := ⟨0, by omega, fun post n x _ h => h⟩
theorem gy_r_tr (y1 y2 y3 : gc_Y) (h : gy_r g_defs g_maxTokens g_maxPrice g_draftTarget g_lastResult g_lastPrice g_lastPeak b_kind b_val b_there b_sizes b_arities b_localCounts D L y1 y2) (g : gy_r g_defs g_maxTokens g_maxPrice g_draftTarget g_lastResult g_lastPrice g_lastPeak b_kind b_val b_there b_sizes b_arities b_localCounts D L y2 y3) : gy_r g_defs g_maxTokens g_maxPrice g_draftTarget g_lastResult g_lastPrice g_lastPeak b_kind b_val b_there b_sizes b_arities b_localCounts D L y1 y3 := by
  obtain ⟨k, k1, k2⟩ := h
  obtain ⟨j, j1, j2⟩ := g
  refine ⟨k + j, by omega, fun post n x hx w => ?_⟩
  have w2 := j2 post n (x + k) (by omega) (by rw [Nat.add_assoc]; exact w)
  have w3 := k2 post (n + j) x (by omega) w2
  rw [show n + (k + j) = n + j + k from by omega]
  exact w3
theorem gy_one {y y' : gc_Y} (hp : 1 + gy_ph y + gc_it y' ≤ gy_ph y' + gc_it y) (h : ∀ post n x, x < 20000 → gy_W g_defs g_maxTokens g_maxPrice g_draftTarget g_lastResult g_lastPrice g_lastPeak b_kind b_val b_there b_sizes b_arities b_localCounts D L post n (x + 1) y' → gy_W g_defs g_maxTokens g_maxPrice g_draftTarget g_lastResult g_lastPrice g_lastPeak b_kind b_val b_there b_sizes b_arities b_localCounts D L post (n + 1) x y) : gy_r g_defs g_maxTokens g_maxPrice g_draftTarget g_lastResult g_lastPrice g_lastPeak b_kind b_val b_there b_sizes b_arities b_localCounts D L y y' :=
  ⟨1, hp, fun post n x hx w => h post n x (by omega) w⟩
theorem gy_rd (hx : x < 20000) (h : wpY_read (gy_P post n x) (g_defs, g_maxTokens, nI D, g_maxPrice, nI L, g_draftTarget, g_lastResult, g_lastPrice, g_lastPeak, nI it, nI fr, nI pd, nI hi, 0, ou, 0, vv, ex, fm, b_kind, b_val, b_there, b_sizes, b_arities, b_localCounts, iS, iA, iB, iF, aE, aF)) : gy_W g_defs g_maxTokens g_maxPrice g_draftTarget g_lastResult g_lastPrice g_lastPeak b_kind b_val b_there b_sizes b_arities b_localCounts D L post (n + 1) x (it, fr, pd, hi, 0, ou, 0, vv, ex, fm, iS, iA, iB, iF, aE, aF) :=
  br_f (nI_ge (b := 20000) hx (by omega)) (br_t rfl (br_t rfl h))
theorem gy_gv (hx : x < 20000) (h : wpY_give (gy_P post n x) (g_defs, g_maxTokens, nI D, g_maxPrice, nI L, g_draftTarget, g_lastResult, g_lastPrice, g_lastPeak, nI it, nI fr, nI pd, nI hi, 0, ou, 1, vv, ex, fm, b_kind, b_val, b_there, b_sizes, b_arities, b_localCounts, iS, iA, iB, iF, aE, aF)) : gy_W g_defs g_maxTokens g_maxPrice g_draftTarget g_lastResult g_lastPrice g_lastPeak b_kind b_val b_there b_sizes b_arities b_localCounts D L post (n + 1) x (it, fr, pd, hi, 0, ou, 1, vv, ex, fm, iS, iA, iB, iF, aE, aF) :=
  br_f (nI_ge (b := 20000) hx (by omega)) (br_t rfl (br_f (by decide) h))
theorem gy_nx (h : gy_W g_defs g_maxTokens g_maxPrice g_draftTarget g_lastResult g_lastPrice g_lastPeak b_kind b_val b_there b_sizes b_arities b_localCounts D L post n (x + 1) (it, fr, pd, hi, en, ou, gv, vv, ex, fm, iS, iA, iB, iF, aE, aF)) : gy_P post n x (g_defs, g_maxTokens, nI D, g_maxPrice, nI L, g_draftTarget, g_lastResult, g_lastPrice, g_lastPeak, nI it, nI fr, nI pd, nI hi, en, ou, gv, vv, ex, fm, b_kind, b_val, b_there, b_sizes, b_arities, b_localCounts, iS, iA, iB, iF, aE, aF) := by
  intro z e
  rw [e, nI_1]
  exact h
theorem gy_pay {ps : SY → Prop} (k : Nat) (h1 : pd + k ≤ L) (hL : L ≤ 4000) (h : ps (g_defs, g_maxTokens, nI D, g_maxPrice, nI L, g_draftTarget, g_lastResult, g_lastPrice, g_lastPeak, nI it, nI fr, nI (pd + k), nI hi, en, ou, gv, vv, ex, fm, b_kind, b_val, b_there, b_sizes, b_arities, b_localCounts, iS, iA, iB, iF, aE, aF)) : wpY_pay ps (g_defs, g_maxTokens, nI D, g_maxPrice, nI L, g_draftTarget, g_lastResult, g_lastPrice, g_lastPeak, nI it, nI fr, nI pd, nI hi, en, ou, gv, vv, ex, fm, b_kind, b_val, b_there, b_sizes, b_arities, b_localCounts, iS, iA, iB, iF, aE, aF) (nI k) :=
  nm_r (nI_add pd k) (br_t (nI_le h1 (by omega)) h)
theorem gy_payN {ps : SY → Prop} (k : Nat) (h1 : ¬ pd + k ≤ L) (hL : pd + k ≤ 5000) (h : ps (g_defs, g_maxTokens, nI D, g_maxPrice, nI L, g_draftTarget, g_lastResult, g_lastPrice, g_lastPeak, nI it, nI fr, nI (pd + k), nI hi, 3, ou, gv, vv, ex, fm, b_kind, b_val, b_there, b_sizes, b_arities, b_localCounts, iS, iA, iB, iF, aE, aF)) : wpY_pay ps (g_defs, g_maxTokens, nI D, g_maxPrice, nI L, g_draftTarget, g_lastResult, g_lastPrice, g_lastPeak, nI it, nI fr, nI pd, nI hi, en, ou, gv, vv, ex, fm, b_kind, b_val, b_there, b_sizes, b_arities, b_localCounts, iS, iA, iB, iF, aE, aF) (nI k) :=
  nm_r (nI_add pd k) (br_f (nI_ge (by omega) (by omega)) h)
theorem gy_push {ps : SY → Prop} {p0 p1 p2 p3 : Int32} (h1 : it < D) (hD : D ≤ 200) (hh : hi ≤ D) (h : ps (g_defs, g_maxTokens, nI D, g_maxPrice, nI L, g_draftTarget, g_lastResult, g_lastPrice, g_lastPeak, nI (it + 1), nI fr, nI pd, nI (gp_hx hi (it + 1)), en, ou, gv, vv, ex, fm, b_kind, b_val, b_there, b_sizes, b_arities, b_localCounts, upd iS it p0, upd iA it p1, upd iB it p2, upd iF it p3, aE, aF)) : wpY_push ps (g_defs, g_maxTokens, nI D, g_maxPrice, nI L, g_draftTarget, g_lastResult, g_lastPrice, g_lastPeak, nI it, nI fr, nI pd, nI hi, en, ou, gv, vv, ex, fm, b_kind, b_val, b_there, b_sizes, b_arities, b_localCounts, iS, iA, iB, iF, aE, aF) p0 p1 p2 p3 := by
  have vi : vp_in (nI it) 200 := ga_in (by omega)
  have cl : (nI it).toNatClampNeg = it := nI_clamp (by omega)
  refine br_t (nI_lt h1 (by omega)) ⟨vi, nm_r (e' := upd iS it p0) (by rw [cl]) ⟨vi, nm_r (e' := upd iA it p1) (by rw [cl]) ⟨vi, nm_r (e' := upd iB it p2) (by rw [cl]) ⟨vi, nm_r (e' := upd iF it p3) (by rw [cl]) (nm_r (nI_1 it) ?_)⟩⟩⟩⟩
  unfold gp_hx at h
  by_cases w : it + 1 ≤ hi
  · rw [if_pos w] at h
    exact br_t (nI_le w (by omega)) h
  · rw [if_neg w] at h
    exact br_f (nI_ge (by omega) (by omega)) h
theorem gy_pushN {ps : SY → Prop} {p0 p1 p2 p3 : Int32} (h1 : ¬ it < D) (hD : it ≤ 200) (h : ps (g_defs, g_maxTokens, nI D, g_maxPrice, nI L, g_draftTarget, g_lastResult, g_lastPrice, g_lastPeak, nI it, nI fr, nI pd, nI hi, 3, ou, gv, vv, ex, fm, b_kind, b_val, b_there, b_sizes, b_arities, b_localCounts, iS, iA, iB, iF, aE, aF)) : wpY_push ps (g_defs, g_maxTokens, nI D, g_maxPrice, nI L, g_draftTarget, g_lastResult, g_lastPrice, g_lastPeak, nI it, nI fr, nI pd, nI hi, en, ou, gv, vv, ex, fm, b_kind, b_val, b_there, b_sizes, b_arities, b_localCounts, iS, iA, iB, iF, aE, aF) p0 p1 p2 p3 :=
  br_f (nI_nlt (by omega) (by omega)) h
/-! the rules -/
theorem gy_1 (hL : L ≤ 4000) (hb : pd ≤ L) (hp : ¬ pd + 1 ≤ L) : gy_r g_defs g_maxTokens g_maxPrice g_draftTarget g_lastResult g_lastPrice g_lastPeak b_kind b_val b_there b_sizes b_arities b_localCounts D L (it, fr, pd, hi, 0, 0, 0, vv, nI e, fm, iS, iA, iB, iF, aE, aF) (it, fr, pd + 1, hi, 3, 0, 0, vv, nI e, fm, iS, iA, iB, iF, aE, aF) := by
  refine gy_one (by show 1 + (2 * pd + 1) + it ≤ 2 * (pd + 1) + 2 + it; omega) (fun post n x hx w => gy_rd hx ?_)
  unfold wpY_read
  refine gy_payN 1 hp (by omega) ?_
  exact br_f (by decide) (gy_nx w)
theorem gy_2 (hL : L ≤ 4000) (hp : pd + 1 ≤ L) (he : e < 240) (hk : b_kind e = 1) : gy_r g_defs g_maxTokens g_maxPrice g_draftTarget g_lastResult g_lastPrice g_lastPeak b_kind b_val b_there b_sizes b_arities b_localCounts D L (it, fr, pd, hi, 0, 0, 0, vv, nI e, fm, iS, iA, iB, iF, aE, aF) (it, fr, pd + 1, hi, 0, 0, 1, b_val e, nI e, fm, iS, iA, iB, iF, aE, aF) := by
  refine gy_one (by show 1 + (2 * pd + 1) + it ≤ 2 * (pd + 1) + 0 + it; omega) (fun post n x hx w => gy_rd hx ?_)
  have vi : vp_in (nI e) 240 := ga_in he
  have cl : (nI e).toNatClampNeg = e := nI_clamp (by omega)
  unfold wpY_read
  refine gy_pay 1 hp hL ?_
  refine br_t rfl ⟨vi, nm_r (e' := 1) (by rw [cl, hk]) ⟨vi, nm_r (e' := b_val e) (by rw [cl]) (nm_e (br_t rfl (gy_nx w)))⟩⟩
theorem gy_3 {a g : Nat} (hL : L ≤ 4000) (hp : pd + 1 ≤ L) (he : e < 240) (hk : b_kind e = 2) (hv : b_val e = nI a) (ha : a < 4) (hg : g < 126) : gy_r g_defs g_maxTokens g_maxPrice g_draftTarget g_lastResult g_lastPrice g_lastPeak b_kind b_val b_there b_sizes b_arities b_localCounts D L (it, fr, pd, hi, 0, 0, 0, vv, nI e, nI g, iS, iA, iB, iF, aE, aF) (it, fr, pd + 1, hi, 0, 0, 0, vv, aE (4 * g + a), aF (4 * g + a), iS, iA, iB, iF, aE, aF) := by
  refine gy_one (by show 1 + (2 * pd + 1) + it ≤ 2 * (pd + 1) + 1 + it; omega) (fun post n x hx w => gy_rd hx ?_)
  have vi : vp_in (nI e) 240 := ga_in he
  have cl : (nI e).toNatClampNeg = e := nI_clamp (by omega)
  have e4 : nI g * 4 + nI a = nI (4 * g + a) := by rw [ga_x4, nI_add, Nat.mul_comm]
  have v4 : vp_in (nI (4 * g + a)) 512 := ga_in (by omega)
  have c4 : (nI (4 * g + a)).toNatClampNeg = 4 * g + a := nI_clamp (by omega)
  unfold wpY_read
  refine gy_pay 1 hp hL ?_
  refine br_t rfl ⟨vi, nm_r (e' := 2) (by rw [cl, hk]) ⟨vi, nm_r (e' := nI a) (by rw [cl, hv]) (nm_e (br_f (by decide) (br_t rfl (nm_r e4 ⟨v4, nm_r (e' := aE (4 * g + a)) (by rw [c4]) ⟨v4, nm_r (e' := aF (4 * g + a)) (by rw [c4]) (gy_nx w)⟩⟩))))⟩⟩
end V
end GY
end
section
section GZ
section V
variable {g_defs g_maxTokens g_maxPrice g_draftTarget g_lastResult g_lastPrice g_lastPeak : Int32} {b_kind b_val b_there b_sizes b_arities b_localCounts : Nat → Int32} {D L : Nat} {it fr pd hi : Nat} {en ou gv vv ex fm : Int32} {iS iA iB iF aE aF : Nat → Int32} {post : Int32 → SY → Prop} {n x e d : Nat}
/-! the facts of a used definition, over Y's tokens -/
theorem gz_bf {sp rts : Nat → Int32} {df : Nat} {ps : Int32 → Prop} (hd : d < 8) (hs : gr_SL b_arities b_localCounts b_sizes b_kind b_val sp rts df d) {p s : Nat} (h1 : 24 * d ≤ p) (h2 : ∀ m, b_sizes d = nI m → m ≤ 24 → p < 24 * d + m) (hp : sp p = nI s) (hs3 : s ≤ p) (h : ps (nI (p - s))) : wpY_before ps (g_defs, g_maxTokens, nI D, g_maxPrice, nI L, g_draftTarget, g_lastResult, g_lastPrice, g_lastPeak, nI it, nI fr, nI pd, nI hi, en, ou, gv, vv, ex, fm, b_kind, b_val, b_there, b_sizes, b_arities, b_localCounts, iS, iA, iB, iF, aE, aF) (nI p) := by
  obtain ⟨m, a, l, q1, q2, q3, q4, q5, q6, hr, q8⟩ := hs
  have h2' := h2 m q4 q1
  have hj : p - 24 * d < m := by omega
  obtain ⟨_, _, _, _, _, s', hsp⟩ := hr _ hj
  have e1 : 24 * d + (p - 24 * d) = p := by omega
  obtain ⟨z1, z2, z3, z4, z5⟩ := id hsp
  rw [e1, hp] at z1
  obtain rfl : s = s' := ga_inj z1 (by omega) (by omega)
  have := gl_before (post := ps) (f_defs := g_defs) (f_maxTokens := g_maxTokens) (f_depth := nI D) (f_maxPrice := g_maxPrice) (f_limitNow := nI L) (f_draftTarget := g_draftTarget) (f_lastResult := g_lastResult) (f_lastPrice := g_lastPrice) (f_lastPeak := g_lastPeak) (f_items := nI it) (f_frames := nI fr) (f_paid := nI pd) (f_high := nI hi) (f_ending := en) (f_outcome := ou) (f_giving := gv) (f_value := vv) (f_expr := ex) (f_frame := fm) (a_val := b_val) (a_there := b_there) (a_sizes := b_sizes) (a_arities := b_arities) (a_localCounts := b_localCounts) (a_itemSort := iS) (a_itemA := iA) (a_itemB := iB) (a_itemFrame := iF) (a_argExpr := aE) (a_argFrame := aF) hr hj q1 (by omega) hsp (by omega)
  rw [e1] at this
  exact this h
theorem gz_loc_l {sp rts : Nat → Int32} {df a l m : Nat} {ps : SY → Prop} (hd : d < 8) (hs : gr_SL b_arities b_localCounts b_sizes b_kind b_val sp rts df d) (hm : b_sizes d = nI m) (hm2 : m ≤ 24) (hl : b_localCounts d = nI l) (hl2 : l ≤ 3)
    (h : ps (g_defs, g_maxTokens, nI D, g_maxPrice, nI L, g_draftTarget, g_lastResult, g_lastPrice, g_lastPeak, nI it, nI fr, nI pd, nI hi, en, ou, gv, vv, nI (gt_rc sp (24 * d + m - 1) (l - a)), fm, b_kind, b_val, b_there, b_sizes, b_arities, b_localCounts, iS, iA, iB, iF, aE, aF)) : ∀ t, a + t ≤ l → wY_read_138 ps (nI a) g_defs g_maxTokens (nI D) g_maxPrice (nI L) g_draftTarget g_lastResult g_lastPrice g_lastPeak (nI it) (nI fr) (nI pd) (nI hi) en ou gv vv ex fm b_kind b_val b_there b_sizes b_arities b_localCounts iS iA iB iF aE aF (t + 1) (nI (gt_rc sp (24 * d + m - 1) (l - (a + t)))) (nI (a + t))
  | 0, _ => br_t (Int32.le_refl _) h
  | t + 1, ht => by
    obtain ⟨m', a', l', q1, q2, q3, q4, q5, q6, hr, hc, q8⟩ := id hs
    obtain rfl : m = m' := ga_inj (hm.symm.trans q4) (by omega) (by omega)
    obtain rfl : l = l' := ga_inj (hl.symm.trans q6) (by omega) (by omega)
    obtain ⟨i1, i2, i3⟩ := gt_roots hr q1 hc (l - (a + (t + 1))) (by omega)
    obtain ⟨s, s1, s2, s3, s4⟩ := gt_rcs hr q1 hc (j := l - (a + (t + 1))) (by omega)
    rw [show l - (a + (t + 1)) + 1 = l - (a + t) from by omega] at s4
    refine br_f (nI_ge (by omega) (by omega)) ?_
    refine gz_bf hd hs i1 (fun m2 e _ => ?_) s1 s3 ?_
    · obtain rfl : m = m2 := ga_inj (hm.symm.trans e) (by omega) (by omega)
      exact i2
    · rw [← s4]
      exact nm_r (e' := nI (a + t)) (pk_m1 _) (gz_loc_l hd hs hm hm2 hl hl2 h t (by omega))
theorem gz_4 {sp rts : Nat → Int32} {df a l m : Nat} (hL : L ≤ 4000) (hp : pd + 1 ≤ L) (hd : d < 8) (hs : gr_SL b_arities b_localCounts b_sizes b_kind b_val sp rts df d) (hm : b_sizes d = nI m) (hm2 : m ≤ 24) (hl : b_localCounts d = nI l) (hl2 : l ≤ 3) (h1 : 24 * d ≤ e) (h2 : e < 24 * d + m) (hk : b_kind e = 3) (hv : b_val e = nI a) (ha : a < l) :
    gy_r g_defs g_maxTokens g_maxPrice g_draftTarget g_lastResult g_lastPrice g_lastPeak b_kind b_val b_there b_sizes b_arities b_localCounts D L (it, fr, pd, hi, 0, 0, 0, vv, nI e, fm, iS, iA, iB, iF, aE, aF) (it, fr, pd + 1, hi, 0, 0, 0, vv, nI (gt_rc sp (24 * d + m - 1) (l - a)), fm, iS, iA, iB, iF, aE, aF) := by
  refine gy_one (by show 1 + (2 * pd + 1) + it ≤ 2 * (pd + 1) + 1 + it; omega) (fun post n x hx w => gy_rd hx ?_)
  have vi : vp_in (nI e) 240 := ga_in (by omega)
  have cl : (nI e).toNatClampNeg = e := nI_clamp (by omega)
  have e1 : nI e / 24 = nI d := by
    rw [show (24 : Int32) = nI 24 from rfl, pk_div (by omega) (by omega) (by omega)]
    exact congrArg nI (by omega)
  have vd : vp_in (nI d) 10 := ga_in (by omega)
  have cd : (nI d).toNatClampNeg = d := nI_clamp (by omega)
  have e2 : nI d * 24 + b_sizes (nI d).toNatClampNeg - 1 = nI (gt_rc sp (24 * d + m - 1) (l - (a + (l - a)))) := by
    rw [cd, hm, ga_x24, nI_add, ga_s (by omega), show l - (a + (l - a)) = 0 from by omega]
    exact congrArg nI (by show _ = 24 * d + m - 1; omega)
  unfold wpY_read
  refine gy_pay 1 hp hL ?_
  refine br_t rfl ⟨vi, nm_r (e' := 3) (by rw [cl, hk]) ⟨vi, nm_r (e' := nI a) (by rw [cl, hv]) (nm_e (br_f (by decide) (br_f (by decide) (br_t rfl ⟨by decide, nm_r e1 ⟨vd, nm_r e2 ⟨vd, nm_r (e' := nI (a + (l - a))) (by rw [cd, hl]; exact congrArg nI (by omega)) ⟨l - a + 1, ?_⟩⟩⟩⟩))))⟩⟩
  exact gz_loc_l hd hs hm hm2 hl hl2 (gy_nx w) (l - a) (by omega)
/-! entering -/
theorem gz_cnt {k : Nat} {ps : SY → Prop} {x1 x2 : Int32} (hit : it ≤ 200) (hk : k ≤ it) (h1 : ∀ j, j < k → iS (it - 1 - j) = 1) (h2 : k = it ∨ ¬ iS (it - 1 - k) = 1) (h : wY_enter_58 ps x1 x2 (nI k) g_defs g_maxTokens (nI D) g_maxPrice (nI L) g_draftTarget g_lastResult g_lastPrice g_lastPeak (nI it) (nI fr) (nI pd) (nI hi) en ou gv vv ex fm b_kind b_val b_there b_sizes b_arities b_localCounts iS iA iB iF aE aF) :
    ∀ t c, c + t = k → wY_enter_33 ps x1 x2 g_defs g_maxTokens (nI D) g_maxPrice (nI L) g_draftTarget g_lastResult g_lastPrice g_lastPeak (nI it) (nI fr) (nI pd) (nI hi) en ou gv vv ex fm b_kind b_val b_there b_sizes b_arities b_localCounts iS iA iB iF aE aF (t + 1) (nI c) (nI (it - c) - 1)
  | 0, c, e => by
    obtain rfl : c = k := e
    by_cases g : c = it
    · rw [show it - c = 0 from by omega]
      exact br_t ga_m1neg h
    · rw [ga_s (by omega)]
      have c2 : (nI (it - c - 1)).toNatClampNeg = it - 1 - c := by rw [nI_clamp (by omega)]; omega
      refine br_f (nI_pos (by omega)) ⟨ga_in (by omega), br_f ?_ h⟩
      rw [c2]
      rcases h2 with h2 | h2
      · exact absurd h2 g
      · exact h2
  | t + 1, c, e => by
    rw [ga_s (by omega)]
    have c2 : (nI (it - c - 1)).toNatClampNeg = it - 1 - c := by rw [nI_clamp (by omega)]; omega
    refine br_f (nI_pos (by omega)) ⟨ga_in (by omega), br_t ?_ (nm_r (nI_1 c) (nm_r (e' := nI (it - (c + 1)) - 1) ?_ ?_))⟩
    · rw [c2]; exact h1 c (by omega)
    · rw [gl_am1]; exact congrArg (fun z => nI z - 1) (by omega)
    · exact gz_cnt hit hk h1 h2 h t (c + 1) (by omega)
theorem gz_ex {a : Nat} (ha : a ≤ it) (h1 : ∀ j, j < a → iS (it - 1 - j) = 1) : ∀ t a, a + t = it → (∀ j, j < a → iS (it - 1 - j) = 1) → ∃ k, a ≤ k ∧ k ≤ it ∧ (∀ j, j < k → iS (it - 1 - j) = 1) ∧ (k = it ∨ ¬ iS (it - 1 - k) = 1)
  | 0, a, e, h => ⟨a, Nat.le_refl _, by omega, h, Or.inl (by omega)⟩
  | t + 1, a, e, h => by
    by_cases g : iS (it - 1 - a) = 1
    · obtain ⟨k, k1, k2, k3, k4⟩ := gz_ex ha h1 t (a + 1) (by omega) (fun j hj => by
        by_cases w : j = a
        · subst w; exact g
        · exact h j (by omega))
      exact ⟨k, by omega, k2, k3, k4⟩
    · exact ⟨a, Nat.le_refl _, by omega, h, Or.inr g⟩
theorem gz_ent {k a : Nat} {ps : SY → Prop} (hd : d < 8) (hit : it ≤ 200) (hu : ¬ b_there d = 0) (ha : b_arities d = nI a) (hk : k ≤ it) (h1 : ∀ j, j < k → iS (it - 1 - j) = 1) (h2 : k = it ∨ ¬ iS (it - 1 - k) = 1) (h : wY_enter_58 ps (nI d) (nI a) (nI k) g_defs g_maxTokens (nI D) g_maxPrice (nI L) g_draftTarget g_lastResult g_lastPrice g_lastPeak (nI it) (nI fr) (nI pd) (nI hi) en ou gv vv ex fm b_kind b_val b_there b_sizes b_arities b_localCounts iS iA iB iF aE aF) : wpY_enter ps (g_defs, g_maxTokens, nI D, g_maxPrice, nI L, g_draftTarget, g_lastResult, g_lastPrice, g_lastPeak, nI it, nI fr, nI pd, nI hi, en, ou, gv, vv, ex, fm, b_kind, b_val, b_there, b_sizes, b_arities, b_localCounts, iS, iA, iB, iF, aE, aF) (nI d) := by
  have vd : vp_in (nI d) 10 := ga_in (by omega)
  have cd : (nI d).toNatClampNeg = d := nI_clamp (by omega)
  refine ⟨vd, br_f (by rw [cd]; exact hu) ⟨vd, nm_r (e' := nI a) (by rw [cd, ha]) (nm_r (e' := nI (it - 0) - 1) rfl ⟨k + 1, ?_⟩)⟩⟩
  exact gz_cnt hit hk h1 h2 h k 0 (by omega)
theorem gz_5 (hL : L ≤ 4000) (hp : pd + 1 ≤ L) (he : e < 240) (hk : b_kind e = 4) (hv : b_val e = nI d) (hd : d < 8) (hu : b_there d = 0) : gy_r g_defs g_maxTokens g_maxPrice g_draftTarget g_lastResult g_lastPrice g_lastPeak b_kind b_val b_there b_sizes b_arities b_localCounts D L (it, fr, pd, hi, 0, 0, 0, vv, nI e, fm, iS, iA, iB, iF, aE, aF) (it, fr, pd + 1, hi, 6, 0, 0, vv, nI e, fm, iS, iA, iB, iF, aE, aF) := by
  refine gy_one (by show 1 + (2 * pd + 1) + it ≤ 2 * (pd + 1) + 2 + it; omega) (fun post n x hx w => gy_rd hx ?_)
  have vi : vp_in (nI e) 240 := ga_in he
  have cl : (nI e).toNatClampNeg = e := nI_clamp (by omega)
  have vd : vp_in (nI d) 10 := ga_in (by omega)
  have cd : (nI d).toNatClampNeg = d := nI_clamp (by omega)
  unfold wpY_read
  refine gy_pay 1 hp hL ?_
  refine br_t rfl ⟨vi, nm_r (e' := 4) (by rw [cl, hk]) ⟨vi, nm_r (e' := nI d) (by rw [cl, hv]) (nm_e (br_f (by decide) (br_f (by decide) (br_f (by decide) (br_t rfl ?_)))))⟩⟩
  exact ⟨vd, br_t (by rw [cd]; exact hu) (gy_nx w)⟩
theorem gz_6 {k a : Nat} (hL : L ≤ 4000) (hp : pd + 1 ≤ L) (he : e < 240) (hk : b_kind e = 4) (hv : b_val e = nI d) (hd : d < 8) (hu : ¬ b_there d = 0) (hit : it ≤ 200) (ha : b_arities d = nI a) (ha4 : a ≤ 4) (hki : k ≤ it) (h1 : ∀ j, j < k → iS (it - 1 - j) = 1) (h2 : k = it ∨ ¬ iS (it - 1 - k) = 1) (hka : k < a) :
    gy_r g_defs g_maxTokens g_maxPrice g_draftTarget g_lastResult g_lastPrice g_lastPeak b_kind b_val b_there b_sizes b_arities b_localCounts D L (it, fr, pd, hi, 0, 0, 0, vv, nI e, fm, iS, iA, iB, iF, aE, aF) (it, fr, pd + 1, hi, if k = it then 2 else 5, if k = it then nI (a - k) else 0, 0, vv, nI e, fm, iS, iA, iB, iF, aE, aF) := by
  have ph : ∀ z : Int32, ¬ z = 0 → 1 + (2 * pd + 1) + it ≤ 2 * (pd + 1) + (if z = 0 then 1 else 2) + it := fun z hz => by rw [if_neg hz]; omega
  refine gy_one ?_ (fun post n x hx w => gy_rd hx ?_)
  · by_cases g : k = it
    · rw [if_pos g]; exact ph 2 (by decide)
    · rw [if_neg g]; exact ph 5 (by decide)
  have vi : vp_in (nI e) 240 := ga_in he
  have cl : (nI e).toNatClampNeg = e := nI_clamp (by omega)
  unfold wpY_read
  refine gy_pay 1 hp hL ?_
  refine br_t rfl ⟨vi, nm_r (e' := 4) (by rw [cl, hk]) ⟨vi, nm_r (e' := nI d) (by rw [cl, hv]) (nm_e (br_f (by decide) (br_f (by decide) (br_f (by decide) (br_t rfl ?_)))))⟩⟩
  refine gz_ent hd hit hu ha hki h1 h2 (br_f (nI_ge hka (by omega)) ?_)
  by_cases g : k = it
  · rw [if_pos g, if_pos g] at w
    refine br_t (congrArg nI g) (br_t rfl (nm_r (e' := nI (a - k)) (pk_sub (by omega)) ?_))
    exact gy_nx w
  · rw [if_neg g, if_neg g] at w
    exact br_f (ga_ne g (by omega) (by omega)) (br_f (by decide) (gy_nx w))
theorem gz_7 {a : Nat} (hL : L ≤ 4000) (hp : pd + 1 ≤ L) (he : e < 240) (hk : b_kind e = 4) (hv : b_val e = nI d) (hd : d < 8) (hu : ¬ b_there d = 0) (hit : it ≤ 200) (ha : b_arities d = nI a) (hai : a ≤ it) (h1 : ∀ j, j < a → iS (it - 1 - j) = 1) (h3 : ¬ pd + 33 ≤ L) :
    gy_r g_defs g_maxTokens g_maxPrice g_draftTarget g_lastResult g_lastPrice g_lastPeak b_kind b_val b_there b_sizes b_arities b_localCounts D L (it, fr, pd, hi, 0, 0, 0, vv, nI e, fm, iS, iA, iB, iF, aE, aF) (it, fr, pd + 33, hi, 3, 0, 0, vv, nI e, fm, iS, iA, iB, iF, aE, aF) := by
  refine gy_one (by show 1 + (2 * pd + 1) + it ≤ 2 * (pd + 33) + 2 + it; omega) (fun post n x hx w => gy_rd hx ?_)
  have vi : vp_in (nI e) 240 := ga_in he
  have cl : (nI e).toNatClampNeg = e := nI_clamp (by omega)
  obtain ⟨k, k1, k2, k3, k4⟩ := gz_ex hai h1 (it - a) a (by omega) h1
  unfold wpY_read
  refine gy_pay 1 hp hL ?_
  refine br_t rfl ⟨vi, nm_r (e' := 4) (by rw [cl, hk]) ⟨vi, nm_r (e' := nI d) (by rw [cl, hv]) (nm_e (br_f (by decide) (br_f (by decide) (br_f (by decide) (br_t rfl ?_)))))⟩⟩
  exact gz_ent hd hit hu ha k2 k3 k4 (br_t (nI_le k1 (by omega)) (gy_payN 32 (by omega) (by omega) (br_f (by decide) (gy_nx w))))
theorem gz_mv0 (a src : Nat → Int32) (f i : Nat) : gp_mv a src f 0 i = a := by
  funext q
  exact if_neg (by omega)
theorem gz_mvs (a src : Nat → Int32) (f i t : Nat) : upd (gp_mv a src f i t) (4 * f + i) (src (t - 1 - i)) = gp_mv a src f (i + 1) t := by
  funext q
  by_cases h : q = 4 * f + i
  · subst h
    rw [pk_us]
    show _ = if 4 * f ≤ 4 * f + i ∧ 4 * f + i < 4 * f + (i + 1) then src (t - 1 - (4 * f + i - 4 * f)) else a (4 * f + i)
    rw [if_pos (by omega), show 4 * f + i - 4 * f = i from by omega]
  · rw [pk_un h]
    show (if 4 * f ≤ q ∧ q < 4 * f + i then src (t - 1 - (q - 4 * f)) else a q) = if 4 * f ≤ q ∧ q < 4 * f + (i + 1) then src (t - 1 - (q - 4 * f)) else a q
    by_cases g : 4 * f ≤ q ∧ q < 4 * f + i
    · rw [if_pos g, if_pos (by omega)]
    · rw [if_neg g, if_neg (by omega)]
theorem gz_mov {a m : Nat} {ps : SY → Prop} (hd : d < 8) (hit : it ≤ 200) (hai : a ≤ it) (ha4 : a ≤ 4) (hf : fr < 126) (hm : b_sizes d = nI m) (hm1 : 1 ≤ m) (hm2 : m ≤ 24)
    (h : ps (g_defs, g_maxTokens, nI D, g_maxPrice, nI L, g_draftTarget, g_lastResult, g_lastPrice, g_lastPeak, nI (it - a), nI (fr + 1), nI pd, nI hi, en, ou, gv, vv, nI (24 * d + m - 1), nI fr, b_kind, b_val, b_there, b_sizes, b_arities, b_localCounts, iS, iA, iB, iF, gp_mv aE iA fr a it, gp_mv aF iF fr a it)) :
    ∀ t i, i + t = a → wY_enter_113 ps (nI d) (nI a) g_defs g_maxTokens (nI D) g_maxPrice (nI L) g_draftTarget g_lastResult g_lastPrice g_lastPeak (nI fr) (nI pd) (nI hi) en ou gv vv ex fm (t + 1) (nI i) (nI (it - i)) b_kind b_val b_there b_sizes b_arities b_localCounts iS iA iB iF (gp_mv aE iA fr i it) (gp_mv aF iF fr i it)
  | 0, i, e => by
    obtain rfl : i = a := e
    have vd : vp_in (nI d) 10 := ga_in (by omega)
    have cd : (nI d).toNatClampNeg = d := nI_clamp (by omega)
    have e2 : nI d * 24 + b_sizes (nI d).toNatClampNeg - 1 = nI (24 * d + m - 1) := by
      rw [cd, hm, ga_x24, nI_add, ga_s (by omega)]; exact congrArg nI (by omega)
    exact br_t (Int32.le_refl _) (nm_r (nI_1 fr) ⟨vd, nm_r e2 h⟩)
  | t + 1, i, e => by
    have e1 : nI (it - i) - 1 = nI (it - (i + 1)) := by
      rw [ga_s (by omega)]; exact congrArg nI (by omega)
    have e4 : nI fr * 4 + nI i = nI (4 * fr + i) := by rw [ga_x4, nI_add, Nat.mul_comm]
    have v1 : vp_in (nI (it - (i + 1))) 200 := ga_in (by omega)
    have v4 : vp_in (nI fr * 4 + nI i) 512 := pk_in _ 512 (by omega) e4
    have c1 : (nI (it - (i + 1))).toNatClampNeg = it - 1 - i := by rw [nI_clamp (by omega)]; omega
    have c4 : (nI fr * 4 + nI i).toNatClampNeg = 4 * fr + i := pk_cl _ e4
    refine br_f (nI_ge (by omega) (by omega)) (nm_r e1 ⟨v1, v4, nm_r (e' := gp_mv aE iA fr (i + 1) it) (by rw [c1, c4]; exact gz_mvs _ _ _ _ _) ⟨v1, v4, nm_r (e' := gp_mv aF iF fr (i + 1) it) (by rw [c1, c4]; exact gz_mvs _ _ _ _ _) (nm_r (nI_1 i) ?_)⟩⟩)
    exact gz_mov hd hit hai ha4 hf hm hm1 hm2 h t (i + 1) (by omega)
theorem gz_8 {a m : Nat} (hL : L ≤ 4000) (hp : pd + 33 ≤ L) (he : e < 240) (hk : b_kind e = 4) (hv : b_val e = nI d) (hd : d < 8) (hu : ¬ b_there d = 0) (hit : it ≤ 200) (ha : b_arities d = nI a) (ha4 : a ≤ 4) (hai : a ≤ it) (h1 : ∀ j, j < a → iS (it - 1 - j) = 1) (hf : fr < 126) (hm : b_sizes d = nI m) (hm1 : 1 ≤ m) (hm2 : m ≤ 24) :
    gy_r g_defs g_maxTokens g_maxPrice g_draftTarget g_lastResult g_lastPrice g_lastPeak b_kind b_val b_there b_sizes b_arities b_localCounts D L (it, fr, pd, hi, 0, 0, 0, vv, nI e, fm, iS, iA, iB, iF, aE, aF) (it - a, fr + 1, pd + 33, hi, 0, 0, 0, vv, nI (24 * d + m - 1), nI fr, iS, iA, iB, iF, gp_mv aE iA fr a it, gp_mv aF iF fr a it) := by
  refine gy_one (by show 1 + (2 * pd + 1) + (it - a) ≤ 2 * (pd + 33) + 1 + it; omega) (fun post n x hx w => gy_rd hx ?_)
  have vi : vp_in (nI e) 240 := ga_in he
  have cl : (nI e).toNatClampNeg = e := nI_clamp (by omega)
  obtain ⟨k, k1, k2, k3, k4⟩ := gz_ex hai h1 (it - a) a (by omega) h1
  unfold wpY_read
  refine gy_pay 1 (by omega) hL ?_
  refine br_t rfl ⟨vi, nm_r (e' := 4) (by rw [cl, hk]) ⟨vi, nm_r (e' := nI d) (by rw [cl, hv]) (nm_e (br_f (by decide) (br_f (by decide) (br_f (by decide) (br_t rfl ?_)))))⟩⟩
  refine gz_ent hd hit hu ha k2 k3 k4 (br_t (nI_le k1 (by omega)) (gy_pay 32 (by omega) hL (br_t rfl ⟨a + 1, ?_⟩)))
  have := gz_mov (aE := aE) (aF := aF) (iA := iA) (iF := iF) (fm := fm) (ex := nI e) hd hit hai ha4 hf hm hm1 hm2 (gy_nx w) a 0 (by omega)
  rw [gz_mv0, gz_mv0] at this
  exact this
end V
end GZ
end
section
section GW
section V
variable {g_defs g_maxTokens g_maxPrice g_draftTarget g_lastResult g_lastPrice g_lastPeak : Int32} {b_kind b_val b_there b_sizes b_arities b_localCounts : Nat → Int32} {D L : Nat} {it fr pd hi : Nat} {en ou gv vv ex fm : Int32} {iS iA iB iF aE aF : Nat → Int32} {post : Int32 → SY → Prop} {n x e d m s : Nat} {sp rts : Nat → Int32} {df : Nat}
/-- the token before e and the expression before it -/
def gw_E (b_sizes sp : Nat → Int32) (d e m s : Nat) : Prop := d < 8 ∧ b_sizes d = nI m ∧ m ≤ 24 ∧ 24 * d < e ∧ e < 24 * d + m ∧ sp (e - 1) = nI s ∧ s < 100 ∧ s ≤ e - 1
theorem gw_bf {ps : Int32 → Prop} (hs : gr_SL b_arities b_localCounts b_sizes b_kind b_val sp rts df d) (hE : gw_E b_sizes sp d e m s) (h : ps (nI (e - 1 - s))) : wpY_before ps (g_defs, g_maxTokens, nI D, g_maxPrice, nI L, g_draftTarget, g_lastResult, g_lastPrice, g_lastPeak, nI it, nI fr, nI pd, nI hi, en, ou, gv, vv, ex, fm, b_kind, b_val, b_there, b_sizes, b_arities, b_localCounts, iS, iA, iB, iF, aE, aF) (nI e - 1) := by
  obtain ⟨h1, h2, h3, h4, h5, h6, h7, h8⟩ := hE
  rw [ga_s (by omega)]
  refine gz_bf h1 hs (by omega) (fun m2 z z2 => ?_) h6 h8 h
  obtain rfl : m = m2 := ga_inj (h2.symm.trans z) (by omega) (by omega)
  omega
theorem gw_9a {a g : Nat} (hL : L ≤ 4000) (hp : pd + 1 ≤ L) (hs : gr_SL b_arities b_localCounts b_sizes b_kind b_val sp rts df d) (hE : gw_E b_sizes sp d e m s) (hk : b_kind e = 5) (hk1 : b_kind (e - 1) = 2) (hv : b_val (e - 1) = nI a) (ha : a < 4) (hg : g < 126) (hN : ¬ it < D) (hit : it ≤ 200) :
    gy_r g_defs g_maxTokens g_maxPrice g_draftTarget g_lastResult g_lastPrice g_lastPeak b_kind b_val b_there b_sizes b_arities b_localCounts D L (it, fr, pd, hi, 0, 0, 0, vv, nI e, nI g, iS, iA, iB, iF, aE, aF) (it, fr, pd + 1, hi, 3, 0, 0, vv, nI (e - 1 - s), nI g, iS, iA, iB, iF, aE, aF) := by
  refine gy_one (by show 1 + (2 * pd + 1) + it ≤ 2 * (pd + 1) + 2 + it; omega) (fun post n x hx w => gy_rd hx ?_)
  obtain ⟨h1, h2, h3, h4, h5, h6, h7, h8⟩ := id hE
  have vi : vp_in (nI e) 240 := ga_in (by omega)
  have cl : (nI e).toNatClampNeg = e := nI_clamp (by omega)
  have v3 : vp_in (nI e - 1) 240 := by rw [ga_s (by omega)]; exact ga_in (by omega)
  have c3 : (nI e - 1).toNatClampNeg = e - 1 := by rw [ga_s (by omega)]; exact nI_clamp (by omega)
  have e4 : nI g * 4 + b_val (nI e - 1).toNatClampNeg = nI (4 * g + a) := by rw [c3, hv, ga_x4, nI_add, Nat.mul_comm]
  have v4 : vp_in (nI (4 * g + a)) 512 := ga_in (by omega)
  unfold wpY_read
  refine gy_pay 1 hp hL ?_
  refine br_t rfl ⟨vi, nm_r (e' := 5) (by rw [cl, hk]) ⟨vi, nm_e (nm_e (br_f (by decide) (br_f (by decide) (br_f (by decide) (br_f (by decide) (br_t rfl ⟨v3, br_t (by rw [c3]; exact hk1) ⟨v3, nm_r e4 ⟨v4, v4, ?_⟩⟩⟩))))))⟩⟩
  refine gy_pushN hN hit ?_
  exact gw_bf hs hE (gy_nx w)
theorem gw_9b (hL : L ≤ 4000) (hp : pd + 1 ≤ L) (hs : gr_SL b_arities b_localCounts b_sizes b_kind b_val sp rts df d) (hE : gw_E b_sizes sp d e m s) (hk : b_kind e = 5) (hk1 : ¬ b_kind (e - 1) = 2) (hN : ¬ it < D) (hit : it ≤ 200) :
    gy_r g_defs g_maxTokens g_maxPrice g_draftTarget g_lastResult g_lastPrice g_lastPeak b_kind b_val b_there b_sizes b_arities b_localCounts D L (it, fr, pd, hi, 0, 0, 0, vv, nI e, fm, iS, iA, iB, iF, aE, aF) (it, fr, pd + 1, hi, 3, 0, 0, vv, nI (e - 1 - s), fm, iS, iA, iB, iF, aE, aF) := by
  refine gy_one (by show 1 + (2 * pd + 1) + it ≤ 2 * (pd + 1) + 2 + it; omega) (fun post n x hx w => gy_rd hx ?_)
  obtain ⟨h1, h2, h3, h4, h5, h6, h7, h8⟩ := id hE
  have vi : vp_in (nI e) 240 := ga_in (by omega)
  have cl : (nI e).toNatClampNeg = e := nI_clamp (by omega)
  have v3 : vp_in (nI e - 1) 240 := by rw [ga_s (by omega)]; exact ga_in (by omega)
  have c3 : (nI e - 1).toNatClampNeg = e - 1 := by rw [ga_s (by omega)]; exact nI_clamp (by omega)
  unfold wpY_read
  refine gy_pay 1 hp hL ?_
  refine br_t rfl ⟨vi, nm_r (e' := 5) (by rw [cl, hk]) ⟨vi, nm_e (nm_e (br_f (by decide) (br_f (by decide) (br_f (by decide) (br_f (by decide) (br_t rfl ⟨v3, br_f (by rw [c3]; exact hk1) ?_⟩))))))⟩⟩
  refine gy_pushN hN hit ?_
  exact gw_bf hs hE (gy_nx w)
theorem gw_10 {a g : Nat} (hL : L ≤ 4000) (hD : D ≤ 200) (hh : hi ≤ D) (hp : pd + 1 ≤ L) (hs : gr_SL b_arities b_localCounts b_sizes b_kind b_val sp rts df d) (hE : gw_E b_sizes sp d e m s) (hk : b_kind e = 5) (hk1 : b_kind (e - 1) = 2) (hv : b_val (e - 1) = nI a) (ha : a < 4) (hg : g < 126) (hN : it < D) :
    gy_r g_defs g_maxTokens g_maxPrice g_draftTarget g_lastResult g_lastPrice g_lastPeak b_kind b_val b_there b_sizes b_arities b_localCounts D L (it, fr, pd, hi, 0, 0, 0, vv, nI e, nI g, iS, iA, iB, iF, aE, aF) (it + 1, fr, pd + 1, gp_hx hi (it + 1), 0, 0, 0, vv, nI (e - 1 - s), nI g, upd iS it 1, upd iA it (aE (4 * g + a)), upd iB it 0, upd iF it (aF (4 * g + a)), aE, aF) := by
  refine gy_one (by show 1 + (2 * pd + 1) + (it + 1) ≤ 2 * (pd + 1) + 1 + it; omega) (fun post n x hx w => gy_rd hx ?_)
  obtain ⟨h1, h2, h3, h4, h5, h6, h7, h8⟩ := id hE
  have vi : vp_in (nI e) 240 := ga_in (by omega)
  have cl : (nI e).toNatClampNeg = e := nI_clamp (by omega)
  have v3 : vp_in (nI e - 1) 240 := by rw [ga_s (by omega)]; exact ga_in (by omega)
  have c3 : (nI e - 1).toNatClampNeg = e - 1 := by rw [ga_s (by omega)]; exact nI_clamp (by omega)
  have e4 : nI g * 4 + b_val (nI e - 1).toNatClampNeg = nI (4 * g + a) := by rw [c3, hv, ga_x4, nI_add, Nat.mul_comm]
  have v4 : vp_in (nI (4 * g + a)) 512 := ga_in (by omega)
  have c4 : (nI (4 * g + a)).toNatClampNeg = 4 * g + a := nI_clamp (by omega)
  unfold wpY_read
  refine gy_pay 1 hp hL ?_
  refine br_t rfl ⟨vi, nm_r (e' := 5) (by rw [cl, hk]) ⟨vi, nm_e (nm_e (br_f (by decide) (br_f (by decide) (br_f (by decide) (br_f (by decide) (br_t rfl ⟨v3, br_t (by rw [c3]; exact hk1) ⟨v3, nm_r e4 ⟨v4, v4, ?_⟩⟩⟩))))))⟩⟩
  rw [c4]
  refine gy_push hN hD hh ?_
  exact gw_bf hs hE (gy_nx w)
theorem gw_11 (hL : L ≤ 4000) (hD : D ≤ 200) (hh : hi ≤ D) (hp : pd + 1 ≤ L) (hs : gr_SL b_arities b_localCounts b_sizes b_kind b_val sp rts df d) (hE : gw_E b_sizes sp d e m s) (hk : b_kind e = 5) (hk1 : ¬ b_kind (e - 1) = 2) (hN : it < D) :
    gy_r g_defs g_maxTokens g_maxPrice g_draftTarget g_lastResult g_lastPrice g_lastPeak b_kind b_val b_there b_sizes b_arities b_localCounts D L (it, fr, pd, hi, 0, 0, 0, vv, nI e, fm, iS, iA, iB, iF, aE, aF) (it + 1, fr, pd + 1, gp_hx hi (it + 1), 0, 0, 0, vv, nI (e - 1 - s), fm, upd iS it 1, upd iA it (nI (e - 1)), upd iB it 0, upd iF it fm, aE, aF) := by
  refine gy_one (by show 1 + (2 * pd + 1) + (it + 1) ≤ 2 * (pd + 1) + 1 + it; omega) (fun post n x hx w => gy_rd hx ?_)
  obtain ⟨h1, h2, h3, h4, h5, h6, h7, h8⟩ := id hE
  have vi : vp_in (nI e) 240 := ga_in (by omega)
  have cl : (nI e).toNatClampNeg = e := nI_clamp (by omega)
  have v3 : vp_in (nI e - 1) 240 := by rw [ga_s (by omega)]; exact ga_in (by omega)
  have c3 : (nI e - 1).toNatClampNeg = e - 1 := by rw [ga_s (by omega)]; exact nI_clamp (by omega)
  unfold wpY_read
  refine gy_pay 1 hp hL ?_
  refine br_t rfl ⟨vi, nm_r (e' := 5) (by rw [cl, hk]) ⟨vi, nm_e (nm_e (br_f (by decide) (br_f (by decide) (br_f (by decide) (br_f (by decide) (br_t rfl ⟨v3, br_f (by rw [c3]; exact hk1) ?_⟩))))))⟩⟩
  refine gy_push hN hD hh ?_
  rw [← ga_s (n := e) (by omega)] at w
  exact gw_bf hs hE (gy_nx w)
theorem gw_op {k : Nat} (h1 : 6 ≤ k) (h2 : k ≤ 10) : ¬ nI k = 1 ∧ ¬ nI k = 2 ∧ ¬ nI k = 3 ∧ ¬ nI k = 4 ∧ ¬ nI k = 5 ∧ ¬ nI k = 11 :=
  ⟨ga_ne (b := 1) (by omega) (by omega) (by omega), ga_ne (b := 2) (by omega) (by omega) (by omega), ga_ne (b := 3) (by omega) (by omega) (by omega), ga_ne (b := 4) (by omega) (by omega) (by omega), ga_ne (b := 5) (by omega) (by omega) (by omega), ga_ne (b := 11) (by omega) (by omega) (by omega)⟩
theorem gw_12 (hL : L ≤ 4000) (hD : D ≤ 200) (hh : hi ≤ D) (hp : pd + 1 ≤ L) (hs : gr_SL b_arities b_localCounts b_sizes b_kind b_val sp rts df d) (hE : gw_E b_sizes sp d e m s) (hk : gc_op (b_kind e)) (hN : it < D) :
    gy_r g_defs g_maxTokens g_maxPrice g_draftTarget g_lastResult g_lastPrice g_lastPeak b_kind b_val b_there b_sizes b_arities b_localCounts D L (it, fr, pd, hi, 0, 0, 0, vv, nI e, fm, iS, iA, iB, iF, aE, aF) (it + 1, fr, pd + 1, gp_hx hi (it + 1), 0, 0, 0, vv, nI (e - 1 - s), fm, upd iS it 2, upd iA it (b_kind e), upd iB it (nI (e - 1)), upd iF it fm, aE, aF) := by
  refine gy_one (by show 1 + (2 * pd + 1) + (it + 1) ≤ 2 * (pd + 1) + 1 + it; omega) (fun post n x hx w => gy_rd hx ?_)
  obtain ⟨h1, h2, h3, h4, h5, h6, h7, h8⟩ := id hE
  obtain ⟨k, k1, k2, k3⟩ := hk
  obtain ⟨q1, q2, q3, q4, q5, q6⟩ := gw_op k1 k2
  have vi : vp_in (nI e) 240 := ga_in (by omega)
  have cl : (nI e).toNatClampNeg = e := nI_clamp (by omega)
  unfold wpY_read
  refine gy_pay 1 hp hL ?_
  refine br_t rfl ⟨vi, nm_r (e' := nI k) (by rw [cl, k3]) ⟨vi, nm_e (nm_e (br_f q1 (br_f q2 (br_f q3 (br_f q4 (br_f q5 (br_f q6 ?_)))))))⟩⟩
  refine gy_push hN hD hh ?_
  rw [← ga_s (n := e) (by omega), k3] at w
  exact gw_bf hs hE (gy_nx w)
theorem gw_9c (hL : L ≤ 4000) (hp : pd + 1 ≤ L) (hs : gr_SL b_arities b_localCounts b_sizes b_kind b_val sp rts df d) (hE : gw_E b_sizes sp d e m s) (hk : gc_op (b_kind e)) (hN : ¬ it < D) (hit : it ≤ 200) :
    gy_r g_defs g_maxTokens g_maxPrice g_draftTarget g_lastResult g_lastPrice g_lastPeak b_kind b_val b_there b_sizes b_arities b_localCounts D L (it, fr, pd, hi, 0, 0, 0, vv, nI e, fm, iS, iA, iB, iF, aE, aF) (it, fr, pd + 1, hi, 3, 0, 0, vv, nI (e - 1 - s), fm, iS, iA, iB, iF, aE, aF) := by
  refine gy_one (by show 1 + (2 * pd + 1) + it ≤ 2 * (pd + 1) + 2 + it; omega) (fun post n x hx w => gy_rd hx ?_)
  obtain ⟨h1, h2, h3, h4, h5, h6, h7, h8⟩ := id hE
  obtain ⟨k, k1, k2, k3⟩ := hk
  obtain ⟨q1, q2, q3, q4, q5, q6⟩ := gw_op k1 k2
  have vi : vp_in (nI e) 240 := ga_in (by omega)
  have cl : (nI e).toNatClampNeg = e := nI_clamp (by omega)
  unfold wpY_read
  refine gy_pay 1 hp hL ?_
  refine br_t rfl ⟨vi, nm_r (e' := nI k) (by rw [cl, k3]) ⟨vi, nm_e (nm_e (br_f q1 (br_f q2 (br_f q3 (br_f q4 (br_f q5 (br_f q6 ?_)))))))⟩⟩
  refine gy_pushN hN hit ?_
  exact gw_bf hs hE (gy_nx w)
theorem gw_13 {s2 : Nat} (hL : L ≤ 4000) (hD : D ≤ 200) (hh : hi ≤ D) (hp : pd + 1 ≤ L) (hs : gr_SL b_arities b_localCounts b_sizes b_kind b_val sp rts df d) (hE : gw_E b_sizes sp d e m s) (hk : b_kind e = 11) (hN : it < D)
    (hs0 : 24 * d + s ≤ e - 1) (hs2 : sp (e - 1 - s) = nI s2) (hs3 : s2 < 100) (hs4 : s2 ≤ e - 1 - s) :
    gy_r g_defs g_maxTokens g_maxPrice g_draftTarget g_lastResult g_lastPrice g_lastPeak b_kind b_val b_there b_sizes b_arities b_localCounts D L (it, fr, pd, hi, 0, 0, 0, vv, nI e, fm, iS, iA, iB, iF, aE, aF) (it + 1, fr, pd + 1, gp_hx hi (it + 1), 0, 0, 0, vv, nI (e - 1 - s - s2), fm, upd iS it 4, upd iA it (nI (e - 1 - s)), upd iB it (nI (e - 1)), upd iF it fm, aE, aF) := by
  refine gy_one (by show 1 + (2 * pd + 1) + (it + 1) ≤ 2 * (pd + 1) + 1 + it; omega) (fun post n x hx w => gy_rd hx ?_)
  obtain ⟨h1, h2, h3, h4, h5, h6, h7, h8⟩ := id hE
  have vi : vp_in (nI e) 240 := ga_in (by omega)
  have cl : (nI e).toNatClampNeg = e := nI_clamp (by omega)
  unfold wpY_read
  refine gy_pay 1 hp hL ?_
  refine br_t rfl ⟨vi, nm_r (e' := 11) (by rw [cl, hk]) ⟨vi, nm_e (nm_e (br_f (by decide) (br_f (by decide) (br_f (by decide) (br_f (by decide) (br_f (by decide) (br_t rfl ?_)))))))⟩⟩
  refine gw_bf hs hE ?_
  refine gy_push hN hD hh ?_
  rw [← ga_s (n := e) (by omega)] at w
  refine gz_bf h1 hs (by omega) (fun m2 z z2 => ?_) hs2 hs4 (gy_nx w)
  obtain rfl : m = m2 := ga_inj (h2.symm.trans z) (by omega) (by omega)
  omega
theorem gw_9d {s2 : Nat} (hL : L ≤ 4000) (hp : pd + 1 ≤ L) (hs : gr_SL b_arities b_localCounts b_sizes b_kind b_val sp rts df d) (hE : gw_E b_sizes sp d e m s) (hk : b_kind e = 11) (hN : ¬ it < D) (hit : it ≤ 200)
    (hs0 : 24 * d + s ≤ e - 1) (hs2 : sp (e - 1 - s) = nI s2) (hs3 : s2 < 100) (hs4 : s2 ≤ e - 1 - s) :
    gy_r g_defs g_maxTokens g_maxPrice g_draftTarget g_lastResult g_lastPrice g_lastPeak b_kind b_val b_there b_sizes b_arities b_localCounts D L (it, fr, pd, hi, 0, 0, 0, vv, nI e, fm, iS, iA, iB, iF, aE, aF) (it, fr, pd + 1, hi, 3, 0, 0, vv, nI (e - 1 - s - s2), fm, iS, iA, iB, iF, aE, aF) := by
  refine gy_one (by show 1 + (2 * pd + 1) + it ≤ 2 * (pd + 1) + 2 + it; omega) (fun post n x hx w => gy_rd hx ?_)
  obtain ⟨h1, h2, h3, h4, h5, h6, h7, h8⟩ := id hE
  have vi : vp_in (nI e) 240 := ga_in (by omega)
  have cl : (nI e).toNatClampNeg = e := nI_clamp (by omega)
  unfold wpY_read
  refine gy_pay 1 hp hL ?_
  refine br_t rfl ⟨vi, nm_r (e' := 11) (by rw [cl, hk]) ⟨vi, nm_e (nm_e (br_f (by decide) (br_f (by decide) (br_f (by decide) (br_f (by decide) (br_f (by decide) (br_t rfl ?_)))))))⟩⟩
  refine gw_bf hs hE ?_
  refine gy_pushN hN hit ?_
  refine gz_bf h1 hs (by omega) (fun m2 z z2 => ?_) hs2 hs4 (gy_nx w)
  obtain rfl : m = m2 := ga_inj (h2.symm.trans z) (by omega) (by omega)
  omega
/-! giving -/
theorem gw_14 (h0 : it = 0) : gy_r g_defs g_maxTokens g_maxPrice g_draftTarget g_lastResult g_lastPrice g_lastPeak b_kind b_val b_there b_sizes b_arities b_localCounts D L (it, fr, pd, hi, 0, 0, 1, vv, ex, fm, iS, iA, iB, iF, aE, aF) (it, fr, pd, hi, 1, vv, 1, vv, ex, fm, iS, iA, iB, iF, aE, aF) := by
  subst h0
  refine gy_one (by show 1 + (2 * pd + 0) + 0 ≤ 2 * pd + 2 + 0; omega) (fun post n x hx w => gy_gv hx ?_)
  exact br_t rfl (gy_nx w)
theorem gw_15 (h0 : 0 < it) (hit : it ≤ 200) (hk : iS (it - 1) = 1) : gy_r g_defs g_maxTokens g_maxPrice g_draftTarget g_lastResult g_lastPrice g_lastPeak b_kind b_val b_there b_sizes b_arities b_localCounts D L (it, fr, pd, hi, 0, 0, 1, vv, ex, fm, iS, iA, iB, iF, aE, aF) (it, fr, pd, hi, 4, 0, 1, vv, ex, fm, iS, iA, iB, iF, aE, aF) := by
  refine gy_one (by show 1 + (2 * pd + 0) + it ≤ 2 * pd + 2 + it; omega) (fun post n x hx w => gy_gv hx ?_)
  have vi : vp_in (nI (it - 1)) 200 := ga_in (by omega)
  have cl : (nI (it - 1)).toNatClampNeg = it - 1 := nI_clamp (by omega)
  exact br_f (nI_ne0 h0 (by omega)) (nm_r (ga_s h0) ⟨vi, nm_r (e' := 1) (by rw [cl, hk]) (br_t rfl (gy_nx w))⟩)
theorem gw_16 (h0 : 0 < it) (hit : it ≤ 200) (hk : iS (it - 1) = 2) : gy_r g_defs g_maxTokens g_maxPrice g_draftTarget g_lastResult g_lastPrice g_lastPeak b_kind b_val b_there b_sizes b_arities b_localCounts D L (it, fr, pd, hi, 0, 0, 1, vv, ex, fm, iS, iA, iB, iF, aE, aF) (it, fr, pd, hi, 0, 0, 0, vv, iB (it - 1), iF (it - 1), upd iS (it - 1) 3, iA, upd iB (it - 1) vv, iF, aE, aF) := by
  refine gy_one (by show 1 + (2 * pd + 0) + it ≤ 2 * pd + 1 + it; omega) (fun post n x hx w => gy_gv hx ?_)
  have vi : vp_in (nI (it - 1)) 200 := ga_in (by omega)
  have cl : (nI (it - 1)).toNatClampNeg = it - 1 := nI_clamp (by omega)
  exact br_f (nI_ne0 h0 (by omega)) (nm_r (ga_s h0) ⟨vi, nm_r (e' := 2) (by rw [cl, hk]) (br_f (by decide) (br_t rfl ⟨vi, nm_r (e' := iB (it - 1)) (by rw [cl]) ⟨vi, nm_r (e' := iF (it - 1)) (by rw [cl]) ⟨vi, nm_r (e' := upd iS (it - 1) 3) (by rw [cl]) ⟨vi, nm_r (e' := upd iB (it - 1) vv) (by rw [cl]) (gy_nx w)⟩⟩⟩⟩))⟩)
theorem gw_cm {ps : Int32 → Prop} {k u v : Int32} (h : ps (gp_cm k u v)) : wpY_compute ps (g_defs, g_maxTokens, nI D, g_maxPrice, nI L, g_draftTarget, g_lastResult, g_lastPrice, g_lastPeak, nI it, nI fr, nI pd, nI hi, en, ou, gv, vv, ex, fm, b_kind, b_val, b_there, b_sizes, b_arities, b_localCounts, iS, iA, iB, iF, aE, aF) k u v := by
  unfold gp_cm at h
  by_cases h6 : k = 6
  · rw [if_pos h6] at h; exact br_t h6 h
  rw [if_neg h6] at h
  by_cases h7 : k = 7
  · rw [if_pos h7] at h; exact br_f h6 (br_t h7 h)
  rw [if_neg h7] at h
  by_cases h8 : k = 8
  · rw [if_pos h8] at h; exact br_f h6 (br_f h7 (br_t h8 h))
  rw [if_neg h8] at h
  by_cases h9 : k = 9
  · rw [if_pos h9] at h
    by_cases g : v ≤ u
    · rw [if_pos g] at h; exact br_f h6 (br_f h7 (br_f h8 (br_t h9 (br_t g h))))
    · rw [if_neg g] at h; exact br_f h6 (br_f h7 (br_f h8 (br_t h9 (br_f g h))))
  rw [if_neg h9] at h
  by_cases g : u = v
  · rw [if_pos g] at h; exact br_f h6 (br_f h7 (br_f h8 (br_f h9 (br_t g h))))
  · rw [if_neg g] at h; exact br_f h6 (br_f h7 (br_f h8 (br_f h9 (br_f g h))))
theorem gw_17 (h0 : 0 < it) (hit : it ≤ 200) (hk : iS (it - 1) = 3) : gy_r g_defs g_maxTokens g_maxPrice g_draftTarget g_lastResult g_lastPrice g_lastPeak b_kind b_val b_there b_sizes b_arities b_localCounts D L (it, fr, pd, hi, 0, 0, 1, vv, ex, fm, iS, iA, iB, iF, aE, aF) (it - 1, fr, pd, hi, 0, 0, 1, gp_cm (iA (it - 1)) (iB (it - 1)) vv, ex, fm, iS, iA, iB, iF, aE, aF) := by
  refine gy_one (by show 1 + (2 * pd + 0) + (it - 1) ≤ 2 * pd + 0 + it; omega) (fun post n x hx w => gy_gv hx ?_)
  have vi : vp_in (nI (it - 1)) 200 := ga_in (by omega)
  have cl : (nI (it - 1)).toNatClampNeg = it - 1 := nI_clamp (by omega)
  refine br_f (nI_ne0 h0 (by omega)) (nm_r (ga_s h0) ⟨vi, nm_r (e' := 3) (by rw [cl, hk]) (br_f (by decide) (br_f (by decide) (br_t rfl (nm_r (ga_s h0) ⟨vi, vi, ?_⟩))))⟩)
  rw [cl]
  exact gw_cm (gy_nx w)
theorem gw_18 (h0 : 0 < it) (hit : it ≤ 200) (hk : iS (it - 1) = 4) : gy_r g_defs g_maxTokens g_maxPrice g_draftTarget g_lastResult g_lastPrice g_lastPeak b_kind b_val b_there b_sizes b_arities b_localCounts D L (it, fr, pd, hi, 0, 0, 1, vv, ex, fm, iS, iA, iB, iF, aE, aF) (it - 1, fr, pd, hi, 0, 0, 0, vv, if vv = 0 then iB (it - 1) else iA (it - 1), iF (it - 1), iS, iA, iB, iF, aE, aF) := by
  refine gy_one (by show 1 + (2 * pd + 0) + (it - 1) ≤ 2 * pd + 1 + it; omega) (fun post n x hx w => gy_gv hx ?_)
  have vi : vp_in (nI (it - 1)) 200 := ga_in (by omega)
  have cl : (nI (it - 1)).toNatClampNeg = it - 1 := nI_clamp (by omega)
  refine br_f (nI_ne0 h0 (by omega)) (nm_r (ga_s h0) ⟨vi, nm_r (e' := 4) (by rw [cl, hk]) (br_f (by decide) (br_f (by decide) (br_f (by decide) (nm_r (ga_s h0) ?_))))⟩)
  by_cases g : vv = 0
  · rw [if_pos g] at w
    exact br_t g ⟨vi, vi, nm_r (e' := iF (it - 1)) (by rw [cl]) (by rw [cl]; exact gy_nx w)⟩
  · rw [if_neg g] at w
    exact br_f g ⟨vi, vi, nm_r (e' := iF (it - 1)) (by rw [cl]) (by rw [cl]; exact gy_nx w)⟩
end V
end GW
end
section
section GQ
def gq_sp (sp : Nat → Int32) : Nat → Nat := fun p => (sp p).toNatClampNeg
def gq_ar (th ars : Nat → Int32) : Nat → Nat := fun d => if d < 8 ∧ ¬ th d = 0 then (ars d).toNatClampNeg else 0
def gq_T (th sz : Nat → Int32) : Nat → Nat → Prop := fun d p => d < 8 ∧ ¬ th d = 0 ∧ 24 * d ≤ p ∧ p < 24 * d + (sz d).toNatClampNeg
def gq_lc (lcs : Nat → Int32) : Nat → Nat := fun d => (lcs d).toNatClampNeg
def gq_rt (sz lcs sp : Nat → Int32) : Nat → Nat → Nat := fun d i => gt_rc sp (24 * d + (sz d).toNatClampNeg - 1) ((lcs d).toNatClampNeg - i)
def gq_us (th : Nat → Int32) : Nat → Prop := fun d => ¬ th d = 0
def gq_G (g_defs g_maxTokens g_maxPrice g_draftTarget g_lastResult g_lastPrice g_lastPeak : Int32) (b_kind b_val b_there b_sizes b_arities b_localCounts : Nat → Int32) (D L : Nat) (sp : Nat → Int32) : gc_G := (b_kind, b_val, gq_sp sp, gq_ar b_there b_arities, gq_T b_there b_sizes, D, L, gy_r g_defs g_maxTokens g_maxPrice g_draftTarget g_lastResult g_lastPrice g_lastPeak b_kind b_val b_there b_sizes b_arities b_localCounts D L)
section V
variable {g_defs g_maxTokens g_maxPrice g_draftTarget g_lastResult g_lastPrice g_lastPeak : Int32} {b_kind b_val b_there b_sizes b_arities b_localCounts : Nat → Int32} {D L : Nat} {sp rts : Nat → Int32} {df : Nat}
theorem gq_are {d a : Nat} (hd : d < 8) (hu : ¬ b_there d = 0) (ha : b_arities d = nI a) (ha4 : a ≤ 4) : gq_ar b_there b_arities d = a := by
  show (if d < 8 ∧ ¬ b_there d = 0 then (b_arities d).toNatClampNeg else 0) = a
  rw [if_pos ⟨hd, hu⟩, ha, nI_clamp (by omega)]
theorem gq_K {d p : Nat} (hdf : df ≤ 8) (hs : gr_SL b_arities b_localCounts b_sizes b_kind b_val sp rts df d) (hT : gq_T b_there b_sizes d p) : gp_K (gq_G g_defs g_maxTokens g_maxPrice g_draftTarget g_lastResult g_lastPrice g_lastPeak b_kind b_val b_there b_sizes b_arities b_localCounts D L sp) (gq_lc b_localCounts) d p := by
  obtain ⟨n, a, l, q1, q2, q3, q4, q5, q6, hr, hc, _⟩ := hs
  obtain ⟨t1, t2, t3, t4⟩ := hT
  rw [q4, nI_clamp (by omega)] at t4
  have ea : gg_ar (gq_G g_defs g_maxTokens g_maxPrice g_draftTarget g_lastResult g_lastPrice g_lastPeak b_kind b_val b_there b_sizes b_arities b_localCounts D L sp) d = a := gq_are t1 t2 q5 q2
  have el : gq_lc b_localCounts d = l := by show (b_localCounts d).toNatClampNeg = l; rw [q6, nI_clamp (by omega)]
  have ep : 24 * d + (p - 24 * d) = p := by omega
  have hT' : ∀ q, 24 * d ≤ q → q < 24 * d + n → gg_T (gq_G g_defs g_maxTokens g_maxPrice g_draftTarget g_lastResult g_lastPrice g_lastPeak b_kind b_val b_there b_sizes b_arities b_localCounts D L sp) d q := fun q w1 w2 => ⟨t1, t2, w1, by rw [q4, nI_clamp (by omega)]; exact w2⟩
  obtain ⟨⟨k, k1, k2, k3⟩, k4, k5, k6, k7, s, k8⟩ := hr (p - 24 * d) (by omega)
  rw [ep] at k3 k4 k5 k6 k7
  have hk : gg_k (gq_G g_defs g_maxTokens g_maxPrice g_draftTarget g_lastResult g_lastPrice g_lastPeak b_kind b_val b_there b_sizes b_arities b_localCounts D L sp) p = nI k := k3
  have hv : gg_v (gq_G g_defs g_maxTokens g_maxPrice g_draftTarget g_lastResult g_lastPrice g_lastPeak b_kind b_val b_there b_sizes b_arities b_localCounts D L sp) p = b_val p := rfl
  unfold gp_K
  rw [hk, hv, ea, el]
  rw [k3, gt_tk_n k k2] at k4
  by_cases g1 : k = 1
  · left; rw [g1]; rfl
  by_cases g2 : k = 2
  · right; left
    have e2 : nI k = 2 := by rw [g2]; rfl
    exact ⟨e2, k5 (k3.trans e2)⟩
  by_cases g3 : k = 3
  · right; right; left
    have e2 : nI k = 3 := by rw [g3]; rfl
    exact ⟨e2, k6 (k3.trans e2)⟩
  by_cases g4 : k = 4
  · right; right; right; left
    have e2 : nI k = 4 := by rw [g4]; rfl
    obtain ⟨a, a1, a2⟩ := k7 (k3.trans e2)
    exact ⟨e2, a, by omega, a2⟩
  rw [if_neg (by omega)] at k4
  by_cases g11 : k = 11
  · right; right; right; right; right
    rw [if_pos g11] at k4
    obtain ⟨s1, z1, z2, z3, z4⟩ := gt_prev hr (e := p - 24 * d) (by omega) (by omega)
    obtain ⟨s2, w1, w2, w3, w4⟩ := gt_prev hr (e := p - 24 * d - s1) (by omega) (by omega)
    rw [show 24 * d + (p - 24 * d - 1) = p - 1 from by omega] at z1
    have es : gg_s (gq_G g_defs g_maxTokens g_maxPrice g_draftTarget g_lastResult g_lastPrice g_lastPeak b_kind b_val b_there b_sizes b_arities b_localCounts D L sp) (p - 1) = s1 := by show (sp (p - 1)).toNatClampNeg = s1; rw [z1, nI_clamp (by omega)]
    have eb : gp_bf (gq_G g_defs g_maxTokens g_maxPrice g_draftTarget g_lastResult g_lastPrice g_lastPeak b_kind b_val b_there b_sizes b_arities b_localCounts D L sp) (p - 1) = p - 1 - s1 := by unfold gp_bf; rw [es]
    rw [show 24 * d + (p - 24 * d - s1 - 1) = p - 1 - s1 from by omega] at w1
    have es2 : gg_s (gq_G g_defs g_maxTokens g_maxPrice g_draftTarget g_lastResult g_lastPrice g_lastPeak b_kind b_val b_there b_sizes b_arities b_localCounts D L sp) (p - 1 - s1) = s2 := by show (sp (p - 1 - s1)).toNatClampNeg = s2; rw [w1, nI_clamp (by omega)]
    have eb2 : gp_bf (gq_G g_defs g_maxTokens g_maxPrice g_draftTarget g_lastResult g_lastPrice g_lastPeak b_kind b_val b_there b_sizes b_arities b_localCounts D L sp) (p - 1 - s1) = p - 1 - s1 - s2 := by unfold gp_bf; rw [es2]
    rw [eb, es, es2, eb2]
    exact ⟨by rw [g11]; rfl, by omega, hT' _ (by omega) (by omega), by omega, hT' _ (by omega) (by omega), by omega, hT' _ (by omega) (by omega)⟩
  · right; right; right; right; left
    rw [if_neg g11] at k4
    obtain ⟨s1, z1, z2, z3, z4⟩ := gt_prev hr (e := p - 24 * d) (by omega) (by omega)
    rw [show 24 * d + (p - 24 * d - 1) = p - 1 from by omega] at z1
    have es : gg_s (gq_G g_defs g_maxTokens g_maxPrice g_draftTarget g_lastResult g_lastPrice g_lastPeak b_kind b_val b_there b_sizes b_arities b_localCounts D L sp) (p - 1) = s1 := by show (sp (p - 1)).toNatClampNeg = s1; rw [z1, nI_clamp (by omega)]
    have eb : gp_bf (gq_G g_defs g_maxTokens g_maxPrice g_draftTarget g_lastResult g_lastPrice g_lastPeak b_kind b_val b_there b_sizes b_arities b_localCounts D L sp) (p - 1) = p - 1 - s1 := by unfold gp_bf; rw [es]
    rw [eb, es]
    refine ⟨?_, by omega, hT' _ (by omega) (by omega), by omega, hT' _ (by omega) (by omega)⟩
    by_cases g5 : k = 5
    · left; rw [g5]; rfl
    · right; exact ⟨k, by omega, by omega, rfl⟩
theorem gq_P (hdf : df ≤ 8) (hD : D ≤ 200) (hL : L ≤ 4000) (hF : ∀ d, d < 8 → ¬ b_there d = 0 → gr_SL b_arities b_localCounts b_sizes b_kind b_val sp rts df d) :
    gp_P (gq_G g_defs g_maxTokens g_maxPrice g_draftTarget g_lastResult g_lastPrice g_lastPeak b_kind b_val b_there b_sizes b_arities b_localCounts D L sp) (gq_us b_there) (gq_lc b_localCounts) (gq_rt b_sizes b_localCounts sp) := by
  refine ⟨⟨hD, hL, fun d => ?_⟩, fun d hd hu => ?_, fun d p hT => ?_⟩
  · show (if d < 8 ∧ ¬ b_there d = 0 then (b_arities d).toNatClampNeg else 0) ≤ 4
    by_cases g : d < 8 ∧ ¬ b_there d = 0
    · obtain ⟨n, a, l, q1, q2, q3, q4, q5, q6, _⟩ := hF d g.1 g.2
      rw [if_pos g, q5, nI_clamp (by omega)]
      exact q2
    · rw [if_neg g]; omega
  · obtain ⟨n, a, l, q1, q2, q3, q4, q5, q6, hr, hc, _⟩ := hF d hd hu
    have el : gq_lc b_localCounts d = l := by show (b_localCounts d).toNatClampNeg = l; rw [q6, nI_clamp (by omega)]
    have er : ∀ i, gq_rt b_sizes b_localCounts sp d i = gt_rc sp (24 * d + n - 1) (l - i) := fun i => by
      show gt_rc sp (24 * d + (b_sizes d).toNatClampNeg - 1) ((b_localCounts d).toNatClampNeg - i) = _
      rw [q4, q6, nI_clamp (by omega), nI_clamp (by omega)]
    have tt : ∀ i, gg_T (gq_G g_defs g_maxTokens g_maxPrice g_draftTarget g_lastResult g_lastPrice g_lastPeak b_kind b_val b_there b_sizes b_arities b_localCounts D L sp) d (gq_rt b_sizes b_localCounts sp d i) := fun i => by
      rw [er]
      obtain ⟨i1, i2, _⟩ := gt_roots hr q1 hc (l - i) (by omega)
      exact ⟨hd, hu, i1, by rw [q4, nI_clamp (by omega)]; exact i2⟩
    exact ⟨by rw [el]; exact q3, tt _, fun i _ => tt i⟩
  · obtain ⟨t1, t2, t3, t4⟩ := id hT
    obtain ⟨n, a, l, q1, q2, q3, q4, q5, q6, _⟩ := hF d t1 t2
    have t4' : p < 24 * d + n := by rw [q4, nI_clamp (by omega)] at t4; exact t4
    exact ⟨t1, t2, by omega, gq_K hdf (hF d t1 t2) hT⟩
theorem gq_E {d e : Nat} (hs : gr_SL b_arities b_localCounts b_sizes b_kind b_val sp rts df d) (hT : gq_T b_there b_sizes d e) (h2 : 2 ≤ gt_tk (b_kind e)) : ∃ m s, gw_E b_sizes sp d e m s ∧ gp_bf (gq_G g_defs g_maxTokens g_maxPrice g_draftTarget g_lastResult g_lastPrice g_lastPeak b_kind b_val b_there b_sizes b_arities b_localCounts D L sp) (e - 1) = e - 1 - s ∧ (3 ≤ gt_tk (b_kind e) → 24 * d + s ≤ e - 1 ∧ ∃ s2, sp (e - 1 - s) = nI s2 ∧ s2 < 100 ∧ s2 ≤ e - 1 - s ∧ gp_bf (gq_G g_defs g_maxTokens g_maxPrice g_draftTarget g_lastResult g_lastPrice g_lastPeak b_kind b_val b_there b_sizes b_arities b_localCounts D L sp) (gp_bf (gq_G g_defs g_maxTokens g_maxPrice g_draftTarget g_lastResult g_lastPrice g_lastPeak b_kind b_val b_there b_sizes b_arities b_localCounts D L sp) (e - 1)) = e - 1 - s - s2) := by
  obtain ⟨n, a, l, q1, q2, q3, q4, q5, q6, hr, hc, _⟩ := hs
  obtain ⟨t1, t2, t3, t4⟩ := hT
  rw [q4, nI_clamp (by omega)] at t4
  have ep : 24 * d + (e - 24 * d) = e := by omega
  obtain ⟨_, k4, _⟩ := hr (e - 24 * d) (by omega)
  rw [ep] at k4
  obtain ⟨s1, z1, z2, z3, z4⟩ := gt_prev hr (e := e - 24 * d) (by omega) (by omega)
  rw [show 24 * d + (e - 24 * d - 1) = e - 1 from by omega] at z1
  have es : gg_s (gq_G g_defs g_maxTokens g_maxPrice g_draftTarget g_lastResult g_lastPrice g_lastPeak b_kind b_val b_there b_sizes b_arities b_localCounts D L sp) (e - 1) = s1 := by show (sp (e - 1)).toNatClampNeg = s1; rw [z1, nI_clamp (by omega)]
  have eb : gp_bf (gq_G g_defs g_maxTokens g_maxPrice g_draftTarget g_lastResult g_lastPrice g_lastPeak b_kind b_val b_there b_sizes b_arities b_localCounts D L sp) (e - 1) = e - 1 - s1 := by unfold gp_bf; rw [es]
  refine ⟨n, s1, ⟨t1, q4, q1, by omega, by omega, z1, by omega, by omega⟩, eb, fun h3 => ⟨by omega, ?_⟩⟩
  obtain ⟨s2, w1, w2, w3, w4⟩ := gt_prev hr (e := e - 24 * d - s1) (by omega) (by omega)
  rw [show 24 * d + (e - 24 * d - s1 - 1) = e - 1 - s1 from by omega] at w1
  have es2 : gg_s (gq_G g_defs g_maxTokens g_maxPrice g_draftTarget g_lastResult g_lastPrice g_lastPeak b_kind b_val b_there b_sizes b_arities b_localCounts D L sp) (e - 1 - s1) = s2 := by show (sp (e - 1 - s1)).toNatClampNeg = s2; rw [w1, nI_clamp (by omega)]
  refine ⟨s2, w1, by omega, by omega, ?_⟩
  rw [eb]
  unfold gp_bf
  rw [es2]
theorem gq_op2 {k : Int32} (h : k = 5 ∨ gc_op k ∨ k = 11) : 2 ≤ gt_tk k := by
  rcases h with rfl | ⟨j, j1, j2, rfl⟩ | rfl
  · decide
  · rw [gt_tk_n j (by omega), if_neg (by omega), if_neg (by omega)]; omega
  · decide
theorem gq_R (hdf : df ≤ 8) (hD : D ≤ 200) (hL : L ≤ 4000) (hF : ∀ d, d < 8 → ¬ b_there d = 0 → gr_SL b_arities b_localCounts b_sizes b_kind b_val sp rts df d) :
    gp_R (gq_G g_defs g_maxTokens g_maxPrice g_draftTarget g_lastResult g_lastPrice g_lastPeak b_kind b_val b_there b_sizes b_arities b_localCounts D L sp) (gq_us b_there) (gq_lc b_localCounts) (gq_rt b_sizes b_localCounts sp) := by
  have hP := gq_P (g_defs := g_defs) (g_maxTokens := g_maxTokens) (g_maxPrice := g_maxPrice) (g_draftTarget := g_draftTarget) (g_lastResult := g_lastResult) (g_lastPrice := g_lastPrice) (g_lastPeak := g_lastPeak) hdf hD hL hF
  refine ⟨⟨gy_r_rf, gy_r_tr⟩, hP, ?_, ?_, ?_, ?_, ?_, ?_, ?_, ?_, ?_, ?_, ?_, ?_, ?_, ?_, ?_, ?_, ?_, ?_⟩
  · intro it fr pd hi vv fm iS iA iB iF aE aF e hb he hp
    exact gy_1 hL hb.2.2.1 hp
  · intro it fr pd hi vv fm iS iA iB iF aE aF e hb he hp hk
    exact gy_2 hL hp he hk
  · intro it fr pd hi vv iS iA iB iF aE aF e a g hb he hp hk hv ha hg
    obtain ⟨b1, b2, b3, b4⟩ := hb
    have b3' : pd ≤ L := b3
    exact gy_3 hL hp he hk hv ha (by omega)
  · intro it fr pd hi vv fm iS iA iB iF aE aF e a d hb he hp hT hk hv ha
    obtain ⟨t1, t2, t3, t4⟩ := hT
    obtain ⟨n, a', l, q1, q2, q3, q4, q5, q6, _⟩ := id (hF d t1 t2)
    rw [q4, nI_clamp (by omega)] at t4
    have el : gq_lc b_localCounts d = l := by show (b_localCounts d).toNatClampNeg = l; rw [q6, nI_clamp (by omega)]
    rw [el] at ha
    have er : gq_rt b_sizes b_localCounts sp d a = gt_rc sp (24 * d + n - 1) (l - a) := by
      show gt_rc sp (24 * d + (b_sizes d).toNatClampNeg - 1) ((b_localCounts d).toNatClampNeg - a) = _
      rw [q4, q6, nI_clamp (by omega), nI_clamp (by omega)]
    rw [er]
    exact gz_4 hL hp t1 (hF d t1 t2) q4 q1 q6 q3 t3 t4 hk hv ha
  · intro it fr pd hi vv fm iS iA iB iF aE aF e d hb he hp hk hv hd hu
    exact gz_5 hL hp he hk hv hd (Decidable.of_not_not hu)
  · intro it fr pd hi vv fm iS iA iB iF aE aF e d k hb he hp hk hv hd hu hki h1 h2 hka
    obtain ⟨b1, b2, b3, b4⟩ := hb
    have b2' : hi ≤ D := b2
    obtain ⟨n, a, l, q1, q2, q3, q4, q5, q6, _⟩ := hF d hd hu
    have ea : gg_ar (gq_G g_defs g_maxTokens g_maxPrice g_draftTarget g_lastResult g_lastPrice g_lastPeak b_kind b_val b_there b_sizes b_arities b_localCounts D L sp) d = a := gq_are hd hu q5 q2
    rw [ea] at hka ⊢
    exact gz_6 hL hp he hk hv hd hu (by omega) q5 q2 hki h1 h2 hka
  · intro it fr pd hi vv fm iS iA iB iF aE aF e d hb he hp hk hv hd hu hai h1 hl
    obtain ⟨b1, b2, b3, b4⟩ := hb
    have b2' : hi ≤ D := b2
    obtain ⟨n, a, l, q1, q2, q3, q4, q5, q6, _⟩ := hF d hd hu
    have ea : gg_ar (gq_G g_defs g_maxTokens g_maxPrice g_draftTarget g_lastResult g_lastPrice g_lastPeak b_kind b_val b_there b_sizes b_arities b_localCounts D L sp) d = a := gq_are hd hu q5 q2
    rw [ea] at hai h1
    exact gz_7 hL hp he hk hv hd hu (by omega) q5 hai h1 hl
  · intro it fr pd hi vv fm iS iA iB iF aE aF e d hb he hk hv hd hu hai h1 hl
    obtain ⟨b1, b2, b3, b4⟩ := hb
    have b2' : hi ≤ D := b2
    have b3' : pd ≤ L := b3
    obtain ⟨n, a, l, q1, q2, q3, q4, q5, q6, hr, hc, _⟩ := hF d hd hu
    have hn := gt_pos' (kd := b_kind) (B := 24 * d) (i := n) (by omega)
    have ea : gg_ar (gq_G g_defs g_maxTokens g_maxPrice g_draftTarget g_lastResult g_lastPrice g_lastPeak b_kind b_val b_there b_sizes b_arities b_localCounts D L sp) d = a := gq_are hd hu q5 q2
    have er : gq_rt b_sizes b_localCounts sp d (gq_lc b_localCounts d) = 24 * d + n - 1 := by
      show gt_rc sp (24 * d + (b_sizes d).toNatClampNeg - 1) ((b_localCounts d).toNatClampNeg - (b_localCounts d).toNatClampNeg) = _
      rw [Nat.sub_self, q4, nI_clamp (by omega)]; rfl
    rw [ea] at hai h1
    rw [ea, er]
    exact gz_8 hL hl he hk hv hd hu (by omega) q5 q2 hai h1 (by omega) q4 hn q1
  · intro it fr pd hi vv fm iS iA iB iF aE aF e d f hb he hp hT hk hf hN
    obtain ⟨b1, b2, b3, b4⟩ := hb
    have b2' : hi ≤ D := b2
    have b3' : pd ≤ L := b3
    obtain ⟨t1, t2, t3, t4⟩ := id hT
    have hS := hF d t1 t2
    obtain ⟨m, s, hE, eb, hb3⟩ := gq_E (g_defs := g_defs) (g_maxTokens := g_maxTokens) (g_maxPrice := g_maxPrice) (g_draftTarget := g_draftTarget) (g_lastResult := g_lastResult) (g_lastPrice := g_lastPrice) (g_lastPeak := g_lastPeak) (D := D) (L := L) hS hT (gq_op2 hk)
    rcases hk with hk | hk | hk
    · by_cases g2 : b_kind (e - 1) = 2
      · obtain ⟨rfl, hf2⟩ := hf hk g2
        obtain ⟨_, _, _, hK⟩ := hP.2.2 d (e - 1) ⟨t1, t2, by have := hE.2.2.2.1; omega, by omega⟩
        unfold gp_K at hK
        obtain ⟨a, a1, a2⟩ : ∃ a, a < gg_ar (gq_G g_defs g_maxTokens g_maxPrice g_draftTarget g_lastResult g_lastPrice g_lastPeak b_kind b_val b_there b_sizes b_arities b_localCounts D L sp) d ∧ b_val (e - 1) = nI a := by
          have g2' : gg_k (gq_G g_defs g_maxTokens g_maxPrice g_draftTarget g_lastResult g_lastPrice g_lastPeak b_kind b_val b_there b_sizes b_arities b_localCounts D L sp) (e - 1) = 2 := g2
          rw [g2'] at hK
          rcases hK with h | h | ⟨h, _⟩ | ⟨h, _⟩ | ⟨h | ⟨j, j1, j2, j3⟩, _⟩ | ⟨h, _⟩
          · exact absurd h (by decide)
          · exact h.2
          · exact absurd h (by decide)
          · exact absurd h (by decide)
          · exact absurd h (by decide)
          · exact absurd j3 (ga_ne (a := 2) (by omega) (by omega) (by omega))
          · exact absurd h (by decide)
        exact ⟨_, gw_9a hL hp hS hE hk g2 a2 (Nat.lt_of_lt_of_le a1 (hP.1.2.2 d)) (by omega) hN (by omega)⟩
      · exact ⟨_, gw_9b hL hp hS hE hk g2 hN (by omega)⟩
    · exact ⟨_, gw_9c hL hp hS hE hk hN (by omega)⟩
    · have hk' : b_kind e = 11 := hk
      obtain ⟨z0, s2, z1, z2, z3, z4⟩ := hb3 (by rw [hk']; decide)
      exact ⟨_, gw_9d hL hp hS hE hk hN (by omega) z0 z1 z2 z3⟩
  · intro it fr pd hi vv iS iA iB iF aE aF e d a g hb he hp hT hk hk1 hv ha hg hN
    obtain ⟨b1, b2, b3, b4⟩ := hb
    have b3' : pd ≤ L := b3
    obtain ⟨t1, t2, t3, t4⟩ := id hT
    have hS := hF d t1 t2
    obtain ⟨m, s, hE, eb, hb3⟩ := gq_E (g_defs := g_defs) (g_maxTokens := g_maxTokens) (g_maxPrice := g_maxPrice) (g_draftTarget := g_draftTarget) (g_lastResult := g_lastResult) (g_lastPrice := g_lastPrice) (g_lastPeak := g_lastPeak) (D := D) (L := L) hS hT (gq_op2 (Or.inl hk))
    rw [eb]
    exact gw_10 hL hD b2 hp hS hE hk hk1 hv ha (by omega) hN
  · intro it fr pd hi vv fm iS iA iB iF aE aF e d hb he hp hT hk hk1 hN
    obtain ⟨b1, b2, b3, b4⟩ := hb
    obtain ⟨t1, t2, t3, t4⟩ := id hT
    have hS := hF d t1 t2
    obtain ⟨m, s, hE, eb, hb3⟩ := gq_E (g_defs := g_defs) (g_maxTokens := g_maxTokens) (g_maxPrice := g_maxPrice) (g_draftTarget := g_draftTarget) (g_lastResult := g_lastResult) (g_lastPrice := g_lastPrice) (g_lastPeak := g_lastPeak) (D := D) (L := L) hS hT (gq_op2 (Or.inl hk))
    rw [eb]
    exact gw_11 hL hD b2 hp hS hE hk hk1 hN
  · intro it fr pd hi vv fm iS iA iB iF aE aF e d hb he hp hT hk hN
    obtain ⟨b1, b2, b3, b4⟩ := hb
    obtain ⟨t1, t2, t3, t4⟩ := id hT
    have hS := hF d t1 t2
    obtain ⟨m, s, hE, eb, hb3⟩ := gq_E (g_defs := g_defs) (g_maxTokens := g_maxTokens) (g_maxPrice := g_maxPrice) (g_draftTarget := g_draftTarget) (g_lastResult := g_lastResult) (g_lastPrice := g_lastPrice) (g_lastPeak := g_lastPeak) (D := D) (L := L) hS hT (gq_op2 (Or.inr (Or.inl hk)))
    rw [eb]
    exact gw_12 hL hD b2 hp hS hE hk hN
  · intro it fr pd hi vv fm iS iA iB iF aE aF e d hb he hp hT hk hN
    obtain ⟨b1, b2, b3, b4⟩ := hb
    obtain ⟨t1, t2, t3, t4⟩ := id hT
    have hS := hF d t1 t2
    have hk' : b_kind e = 11 := hk
    obtain ⟨m, s, hE, eb, hb3⟩ := gq_E (g_defs := g_defs) (g_maxTokens := g_maxTokens) (g_maxPrice := g_maxPrice) (g_draftTarget := g_draftTarget) (g_lastResult := g_lastResult) (g_lastPrice := g_lastPrice) (g_lastPeak := g_lastPeak) (D := D) (L := L) hS hT (gq_op2 (Or.inr (Or.inr hk)))
    obtain ⟨z0, s2, z1, z2, z3, z4⟩ := hb3 (by rw [hk']; decide)
    rw [z4, eb]
    exact gw_13 hL hD b2 hp hS hE hk hN z0 z1 z2 z3
  · intro it fr pd hi vv ex fm iS iA iB iF aE aF hb h0
    exact gw_14 h0
  · intro it fr pd hi vv ex fm iS iA iB iF aE aF hb h0 hk
    obtain ⟨b1, b2, b3, b4⟩ := hb
    have b2' : hi ≤ D := b2
    exact gw_15 h0 (by omega) hk
  · intro it fr pd hi vv ex fm iS iA iB iF aE aF hb h0 hk
    obtain ⟨b1, b2, b3, b4⟩ := hb
    have b2' : hi ≤ D := b2
    exact gw_16 h0 (by omega) hk
  · intro it fr pd hi vv ex fm iS iA iB iF aE aF hb h0 hk
    obtain ⟨b1, b2, b3, b4⟩ := hb
    have b2' : hi ≤ D := b2
    exact gw_17 h0 (by omega) hk
  · intro it fr pd hi vv ex fm iS iA iB iF aE aF hb h0 hk
    obtain ⟨b1, b2, b3, b4⟩ := hb
    have b2' : hi ≤ D := b2
    exact gw_18 h0 (by omega) hk
end V
end GQ
end
section
section GX
def gx_rg (a : Nat → Int32) (s m : Nat) (g : Nat → Int32) : Nat → Int32 := fun q => if s ≤ q ∧ q < s + m then g (q - s) else a q
theorem gx_rg0 (a : Nat → Int32) (s : Nat) (g : Nat → Int32) : gx_rg a s 0 g = a := by
  funext q
  exact if_neg (by omega)
theorem gx_rgs (a : Nat → Int32) (s m : Nat) (g : Nat → Int32) : upd (gx_rg a s m g) (s + m) (g m) = gx_rg a s (m + 1) g := by
  funext q
  by_cases h : q = s + m
  · subst h
    rw [pk_us]
    show _ = if s ≤ s + m ∧ s + m < s + (m + 1) then g (s + m - s) else a (s + m)
    rw [if_pos (by omega), show s + m - s = m from by omega]
  · rw [pk_un h]
    show (if s ≤ q ∧ q < s + m then g (q - s) else a q) = if s ≤ q ∧ q < s + (m + 1) then g (q - s) else a q
    by_cases w : s ≤ q ∧ q < s + m
    · rw [if_pos w, if_pos (by omega)]
    · rw [if_neg w, if_neg (by omega)]
theorem gx_rgi {a : Nat → Int32} {s m : Nat} {g : Nat → Int32} {i : Nat} (h : i < m) : gx_rg a s m g (s + i) = g i := by
  show (if s ≤ s + i ∧ s + i < s + m then g (s + i - s) else a (s + i)) = _
  rw [if_pos (by omega), show s + i - s = i from by omega]
theorem gx_rgo {a : Nat → Int32} {s m : Nat} {g : Nat → Int32} {q : Nat} (h : ¬ (s ≤ q ∧ q < s + m)) : gx_rg a s m g q = a q := if_neg h
theorem gx_mvi {a src : Nat → Int32} {f n t i : Nat} (h : i < n) : gp_mv a src f n t (4 * f + i) = src (t - 1 - i) := by
  show (if 4 * f ≤ 4 * f + i ∧ 4 * f + i < 4 * f + n then src (t - 1 - (4 * f + i - 4 * f)) else a (4 * f + i)) = _
  rw [if_pos (by omega), show 4 * f + i - 4 * f = i from by omega]
theorem gx_mvo {a src : Nat → Int32} {f n t q : Nat} (h : ¬ (4 * f ≤ q ∧ q < 4 * f + n)) : gp_mv a src f n t q = a q := if_neg h
section V
variable {f_draftSlot f_slotTokens f_slotRoots f_itemArgument f_itemLeft f_itemRight f_itemChoice f_nodeFresh f_nodeBusy f_nodeNumber f_nodePartial f_modeRead f_modeDemand f_modeEnter f_modeGive f_placeNodes f_defs f_maxTokens f_maxPrice f_draftTarget f_draftMade : Int32} {a_slotUsed a_slotArity a_slotLocals a_slotSize a_tokenKind a_tokenValue a_tokenSpan a_roots : Nat → Int32} {D L pr pk it mz hi nn nf : Nat} {rs ou md nA nB : Int32} {iS iA iB mN mP mB mH nS nC nE nP nG nW fA fL : Nat → Int32} {k n : Nat}
theorem gx_pay {ps : Int32 → SX → Prop} (k : Nat) (h1 : pr + k ≤ L) (hL : L ≤ 4000) (h : ps 1 (f_draftSlot, f_slotTokens, f_slotRoots, f_itemArgument, f_itemLeft, f_itemRight, f_itemChoice, f_nodeFresh, f_nodeBusy, f_nodeNumber, f_nodePartial, f_modeRead, f_modeDemand, f_modeEnter, f_modeGive, f_placeNodes, f_defs, f_maxTokens, nI D, f_maxPrice, nI L, f_draftTarget, f_draftMade, rs, nI (pr + k), nI pk, ou, md, nA, nB, nI it, nI mz, nI hi, nI nn, nI nf, a_slotUsed, a_slotArity, a_slotLocals, a_slotSize, a_tokenKind, a_tokenValue, a_tokenSpan, a_roots, iS, iA, iB, mN, mP, mB, mH, nS, nC, nE, nP, nG, nW, fA, fL)) : wpX_pay ps (f_draftSlot, f_slotTokens, f_slotRoots, f_itemArgument, f_itemLeft, f_itemRight, f_itemChoice, f_nodeFresh, f_nodeBusy, f_nodeNumber, f_nodePartial, f_modeRead, f_modeDemand, f_modeEnter, f_modeGive, f_placeNodes, f_defs, f_maxTokens, nI D, f_maxPrice, nI L, f_draftTarget, f_draftMade, rs, nI pr, nI pk, ou, md, nA, nB, nI it, nI mz, nI hi, nI nn, nI nf, a_slotUsed, a_slotArity, a_slotLocals, a_slotSize, a_tokenKind, a_tokenValue, a_tokenSpan, a_roots, iS, iA, iB, mN, mP, mB, mH, nS, nC, nE, nP, nG, nW, fA, fL) (nI k) := by
  have e : nI L - nI pr = nI (L - pr) := pk_sub (by omega)
  have c : nI k ≤ nI L - nI pr := by rw [e]; exact nI_le (by omega) (by omega)
  exact br_t c (nm_r (nI_add pr k) h)
theorem gx_payN {ps : Int32 → SX → Prop} (k : Nat) (h1 : ¬ pr + k ≤ L) (h2 : pr ≤ L) (hk : k ≤ 5000) (h : ps 0 (f_draftSlot, f_slotTokens, f_slotRoots, f_itemArgument, f_itemLeft, f_itemRight, f_itemChoice, f_nodeFresh, f_nodeBusy, f_nodeNumber, f_nodePartial, f_modeRead, f_modeDemand, f_modeEnter, f_modeGive, f_placeNodes, f_defs, f_maxTokens, nI D, f_maxPrice, nI L, f_draftTarget, f_draftMade, rs, nI pr, nI pk, 3, md, nA, nB, nI it, nI mz, nI hi, nI nn, nI nf, a_slotUsed, a_slotArity, a_slotLocals, a_slotSize, a_tokenKind, a_tokenValue, a_tokenSpan, a_roots, iS, iA, iB, mN, mP, mB, mH, nS, nC, nE, nP, nG, nW, fA, fL)) : wpX_pay ps (f_draftSlot, f_slotTokens, f_slotRoots, f_itemArgument, f_itemLeft, f_itemRight, f_itemChoice, f_nodeFresh, f_nodeBusy, f_nodeNumber, f_nodePartial, f_modeRead, f_modeDemand, f_modeEnter, f_modeGive, f_placeNodes, f_defs, f_maxTokens, nI D, f_maxPrice, nI L, f_draftTarget, f_draftMade, rs, nI pr, nI pk, ou, md, nA, nB, nI it, nI mz, nI hi, nI nn, nI nf, a_slotUsed, a_slotArity, a_slotLocals, a_slotSize, a_tokenKind, a_tokenValue, a_tokenSpan, a_roots, iS, iA, iB, mN, mP, mB, mH, nS, nC, nE, nP, nG, nW, fA, fL) (nI k) := by
  have e : nI L - nI pr = nI (L - pr) := pk_sub (by omega)
  have c : ¬ nI k ≤ nI L - nI pr := by rw [e]; exact nI_ge (by omega) (by omega)
  exact br_f c h
theorem gx_rea28 {ps : Int32 → SX → Prop} (hn : n ≤ 1000) (hk : pk ≤ 1000) (h : ps 1 (f_draftSlot, f_slotTokens, f_slotRoots, f_itemArgument, f_itemLeft, f_itemRight, f_itemChoice, f_nodeFresh, f_nodeBusy, f_nodeNumber, f_nodePartial, f_modeRead, f_modeDemand, f_modeEnter, f_modeGive, f_placeNodes, f_defs, f_maxTokens, nI D, f_maxPrice, nI L, f_draftTarget, f_draftMade, rs, nI pr, nI (gp_hx pk n), ou, md, nA, nB, nI it, nI mz, nI hi, nI nn, nI nf, a_slotUsed, a_slotArity, a_slotLocals, a_slotSize, a_tokenKind, a_tokenValue, a_tokenSpan, a_roots, iS, iA, iB, mN, mP, mB, mH, nS, nC, nE, nP, nG, nW, fA, fL)) : wX_reach_28 ps (nI n) f_draftSlot f_slotTokens f_slotRoots f_itemArgument f_itemLeft f_itemRight f_itemChoice f_nodeFresh f_nodeBusy f_nodeNumber f_nodePartial f_modeRead f_modeDemand f_modeEnter f_modeGive f_placeNodes f_defs f_maxTokens (nI D) f_maxPrice (nI L) f_draftTarget f_draftMade rs (nI pr) (nI pk) ou md nA nB (nI it) (nI mz) (nI hi) (nI nn) (nI nf) a_slotUsed a_slotArity a_slotLocals a_slotSize a_tokenKind a_tokenValue a_tokenSpan a_roots iS iA iB mN mP mB mH nS nC nE nP nG nW fA fL := by
  unfold gp_hx at h
  by_cases w : n ≤ pk
  · rw [if_pos w] at h
    exact br_t (nI_le w (by omega)) h
  · rw [if_neg w] at h
    exact br_f (nI_ge (by omega) (by omega)) h
theorem gx_rea {ps : Int32 → SX → Prop} (n : Nat) (h1 : n ≤ D) (hD : D ≤ 200) (hh : hi ≤ 200) (hk : pk ≤ 200) (h : ps 1 (f_draftSlot, f_slotTokens, f_slotRoots, f_itemArgument, f_itemLeft, f_itemRight, f_itemChoice, f_nodeFresh, f_nodeBusy, f_nodeNumber, f_nodePartial, f_modeRead, f_modeDemand, f_modeEnter, f_modeGive, f_placeNodes, f_defs, f_maxTokens, nI D, f_maxPrice, nI L, f_draftTarget, f_draftMade, rs, nI pr, nI (gp_hx pk n), ou, md, nA, nB, nI it, nI mz, nI (gp_hx hi n), nI nn, nI nf, a_slotUsed, a_slotArity, a_slotLocals, a_slotSize, a_tokenKind, a_tokenValue, a_tokenSpan, a_roots, iS, iA, iB, mN, mP, mB, mH, nS, nC, nE, nP, nG, nW, fA, fL)) : wpX_reach ps (f_draftSlot, f_slotTokens, f_slotRoots, f_itemArgument, f_itemLeft, f_itemRight, f_itemChoice, f_nodeFresh, f_nodeBusy, f_nodeNumber, f_nodePartial, f_modeRead, f_modeDemand, f_modeEnter, f_modeGive, f_placeNodes, f_defs, f_maxTokens, nI D, f_maxPrice, nI L, f_draftTarget, f_draftMade, rs, nI pr, nI pk, ou, md, nA, nB, nI it, nI mz, nI hi, nI nn, nI nf, a_slotUsed, a_slotArity, a_slotLocals, a_slotSize, a_tokenKind, a_tokenValue, a_tokenSpan, a_roots, iS, iA, iB, mN, mP, mB, mH, nS, nC, nE, nP, nG, nW, fA, fL) (nI n) := by
  refine br_t (nI_le h1 (by omega)) ?_
  by_cases w : n ≤ hi
  · have e : gp_hx hi n = hi := if_pos w
    rw [e] at h
    exact br_t (nI_le w (by omega)) (gx_rea28 (by omega) (by omega) h)
  · have e : gp_hx hi n = n := if_neg w
    rw [e] at h
    exact br_f (nI_ge (by omega) (by omega)) (gx_rea28 (by omega) (by omega) h)
theorem gx_reaN {ps : Int32 → SX → Prop} (n : Nat) (h1 : ¬ n ≤ D) (hn : n ≤ 1000) (h : ps 0 (f_draftSlot, f_slotTokens, f_slotRoots, f_itemArgument, f_itemLeft, f_itemRight, f_itemChoice, f_nodeFresh, f_nodeBusy, f_nodeNumber, f_nodePartial, f_modeRead, f_modeDemand, f_modeEnter, f_modeGive, f_placeNodes, f_defs, f_maxTokens, nI D, f_maxPrice, nI L, f_draftTarget, f_draftMade, rs, nI pr, nI pk, 3, md, nA, nB, nI it, nI mz, nI hi, nI nn, nI nf, a_slotUsed, a_slotArity, a_slotLocals, a_slotSize, a_tokenKind, a_tokenValue, a_tokenSpan, a_roots, iS, iA, iB, mN, mP, mB, mH, nS, nC, nE, nP, nG, nW, fA, fL)) : wpX_reach ps (f_draftSlot, f_slotTokens, f_slotRoots, f_itemArgument, f_itemLeft, f_itemRight, f_itemChoice, f_nodeFresh, f_nodeBusy, f_nodeNumber, f_nodePartial, f_modeRead, f_modeDemand, f_modeEnter, f_modeGive, f_placeNodes, f_defs, f_maxTokens, nI D, f_maxPrice, nI L, f_draftTarget, f_draftMade, rs, nI pr, nI pk, ou, md, nA, nB, nI it, nI mz, nI hi, nI nn, nI nf, a_slotUsed, a_slotArity, a_slotLocals, a_slotSize, a_tokenKind, a_tokenValue, a_tokenSpan, a_roots, iS, iA, iB, mN, mP, mB, mH, nS, nC, nE, nP, nG, nW, fA, fL) (nI n) :=
  br_f (nI_ge (by omega) (by omega)) h
theorem gx_push {ps : SX → Prop} {p0 p1 p2 : Int32} (h1 : it < D) (hD : D ≤ 200) (hh : hi ≤ 200) (hk : pk ≤ 200) (h : ps (f_draftSlot, f_slotTokens, f_slotRoots, f_itemArgument, f_itemLeft, f_itemRight, f_itemChoice, f_nodeFresh, f_nodeBusy, f_nodeNumber, f_nodePartial, f_modeRead, f_modeDemand, f_modeEnter, f_modeGive, f_placeNodes, f_defs, f_maxTokens, nI D, f_maxPrice, nI L, f_draftTarget, f_draftMade, rs, nI pr, nI (gp_hx pk (it + 1)), ou, md, nA, nB, nI (it + 1), nI mz, nI (gp_hx hi (it + 1)), nI nn, nI nf, a_slotUsed, a_slotArity, a_slotLocals, a_slotSize, a_tokenKind, a_tokenValue, a_tokenSpan, a_roots, upd iS it p0, upd iA it p1, upd iB it p2, mN, mP, mB, mH, nS, nC, nE, nP, nG, nW, fA, fL)) : wpX_push ps (f_draftSlot, f_slotTokens, f_slotRoots, f_itemArgument, f_itemLeft, f_itemRight, f_itemChoice, f_nodeFresh, f_nodeBusy, f_nodeNumber, f_nodePartial, f_modeRead, f_modeDemand, f_modeEnter, f_modeGive, f_placeNodes, f_defs, f_maxTokens, nI D, f_maxPrice, nI L, f_draftTarget, f_draftMade, rs, nI pr, nI pk, ou, md, nA, nB, nI it, nI mz, nI hi, nI nn, nI nf, a_slotUsed, a_slotArity, a_slotLocals, a_slotSize, a_tokenKind, a_tokenValue, a_tokenSpan, a_roots, iS, iA, iB, mN, mP, mB, mH, nS, nC, nE, nP, nG, nW, fA, fL) p0 p1 p2 := by
  have vi : vp_in (nI it) 200 := ga_in (by omega)
  have cl : (nI it).toNatClampNeg = it := nI_clamp (by omega)
  have e1 : nI it + 1 = nI (it + 1) := nI_1 it
  unfold wpX_push
  show wpX_reach _ (f_draftSlot, f_slotTokens, f_slotRoots, f_itemArgument, f_itemLeft, f_itemRight, f_itemChoice, f_nodeFresh, f_nodeBusy, f_nodeNumber, f_nodePartial, f_modeRead, f_modeDemand, f_modeEnter, f_modeGive, f_placeNodes, f_defs, f_maxTokens, nI D, f_maxPrice, nI L, f_draftTarget, f_draftMade, rs, nI pr, nI pk, ou, md, nA, nB, nI it, nI mz, nI hi, nI nn, nI nf, a_slotUsed, a_slotArity, a_slotLocals, a_slotSize, a_tokenKind, a_tokenValue, a_tokenSpan, a_roots, iS, iA, iB, mN, mP, mB, mH, nS, nC, nE, nP, nG, nW, fA, fL) (nI it + 1)
  rw [e1]
  refine gx_rea (it + 1) (by omega) hD hh hk (br_f (by decide) ⟨vi, nm_r (e' := upd iS it p0) (by rw [cl]) ⟨vi, nm_r (e' := upd iA it p1) (by rw [cl]) ⟨vi, nm_r (e' := upd iB it p2) (by rw [cl]) (nm_r e1 h)⟩⟩⟩)
theorem gx_pushN {ps : SX → Prop} {p0 p1 p2 : Int32} (h1 : ¬ it < D) (hD : it ≤ 200) (h : ps (f_draftSlot, f_slotTokens, f_slotRoots, f_itemArgument, f_itemLeft, f_itemRight, f_itemChoice, f_nodeFresh, f_nodeBusy, f_nodeNumber, f_nodePartial, f_modeRead, f_modeDemand, f_modeEnter, f_modeGive, f_placeNodes, f_defs, f_maxTokens, nI D, f_maxPrice, nI L, f_draftTarget, f_draftMade, rs, nI pr, nI pk, 3, md, nA, nB, nI it, nI mz, nI hi, nI nn, nI nf, a_slotUsed, a_slotArity, a_slotLocals, a_slotSize, a_tokenKind, a_tokenValue, a_tokenSpan, a_roots, iS, iA, iB, mN, mP, mB, mH, nS, nC, nE, nP, nG, nW, fA, fL)) : wpX_push ps (f_draftSlot, f_slotTokens, f_slotRoots, f_itemArgument, f_itemLeft, f_itemRight, f_itemChoice, f_nodeFresh, f_nodeBusy, f_nodeNumber, f_nodePartial, f_modeRead, f_modeDemand, f_modeEnter, f_modeGive, f_placeNodes, f_defs, f_maxTokens, nI D, f_maxPrice, nI L, f_draftTarget, f_draftMade, rs, nI pr, nI pk, ou, md, nA, nB, nI it, nI mz, nI hi, nI nn, nI nf, a_slotUsed, a_slotArity, a_slotLocals, a_slotSize, a_tokenKind, a_tokenValue, a_tokenSpan, a_roots, iS, iA, iB, mN, mP, mB, mH, nS, nC, nE, nP, nG, nW, fA, fL) p0 p1 p2 := by
  have e1 : nI it + 1 = nI (it + 1) := nI_1 it
  unfold wpX_push
  show wpX_reach _ (f_draftSlot, f_slotTokens, f_slotRoots, f_itemArgument, f_itemLeft, f_itemRight, f_itemChoice, f_nodeFresh, f_nodeBusy, f_nodeNumber, f_nodePartial, f_modeRead, f_modeDemand, f_modeEnter, f_modeGive, f_placeNodes, f_defs, f_maxTokens, nI D, f_maxPrice, nI L, f_draftTarget, f_draftMade, rs, nI pr, nI pk, ou, md, nA, nB, nI it, nI mz, nI hi, nI nn, nI nf, a_slotUsed, a_slotArity, a_slotLocals, a_slotSize, a_tokenKind, a_tokenValue, a_tokenSpan, a_roots, iS, iA, iB, mN, mP, mB, mH, nS, nC, nE, nP, nG, nW, fA, fL) (nI it + 1)
  rw [e1]
  exact gx_reaN (it + 1) (by omega) (by omega) (br_t rfl h)
theorem gx_new {ps : Int32 → SX → Prop} {p0 p1 p2 : Int32} (h1 : nn < 4500) (h : ps (nI nn) (f_draftSlot, f_slotTokens, f_slotRoots, f_itemArgument, f_itemLeft, f_itemRight, f_itemChoice, f_nodeFresh, f_nodeBusy, f_nodeNumber, f_nodePartial, f_modeRead, f_modeDemand, f_modeEnter, f_modeGive, f_placeNodes, f_defs, f_maxTokens, nI D, f_maxPrice, nI L, f_draftTarget, f_draftMade, rs, nI pr, nI pk, ou, md, nA, nB, nI it, nI mz, nI hi, nI (nn + 1), nI nf, a_slotUsed, a_slotArity, a_slotLocals, a_slotSize, a_tokenKind, a_tokenValue, a_tokenSpan, a_roots, iS, iA, iB, mN, mP, mB, mH, upd nS nn p0, upd nC nn p1, upd nE nn p2, upd nP nn 1, upd nG nn 0, nW, fA, fL)) : wpX_newNode ps (f_draftSlot, f_slotTokens, f_slotRoots, f_itemArgument, f_itemLeft, f_itemRight, f_itemChoice, f_nodeFresh, f_nodeBusy, f_nodeNumber, f_nodePartial, f_modeRead, f_modeDemand, f_modeEnter, f_modeGive, f_placeNodes, f_defs, f_maxTokens, nI D, f_maxPrice, nI L, f_draftTarget, f_draftMade, rs, nI pr, nI pk, ou, md, nA, nB, nI it, nI mz, nI hi, nI nn, nI nf, a_slotUsed, a_slotArity, a_slotLocals, a_slotSize, a_tokenKind, a_tokenValue, a_tokenSpan, a_roots, iS, iA, iB, mN, mP, mB, mH, nS, nC, nE, nP, nG, nW, fA, fL) p0 p1 p2 := by
  have vi : vp_in (nI nn) 4500 := ga_in (by omega)
  have cl : (nI nn).toNatClampNeg = nn := nI_clamp (by omega)
  exact nm_r (nI_1 nn) ⟨vi, nm_r (e' := upd nS nn p0) (by rw [cl]) ⟨vi, nm_r (e' := upd nC nn p1) (by rw [cl]) ⟨vi, nm_r (e' := upd nE nn p2) (by rw [cl]) ⟨vi, nm_r (e' := upd nP nn 1) (by rw [cl]) ⟨vi, nm_r (e' := upd nG nn 0) (by rw [cl]) h⟩⟩⟩⟩⟩
theorem gx_nf93 {ps : Int32 → SX → Prop} {d m : Nat} {x2 : Int32} (hd : d < 8) (hm : m ≤ 3) (hn : nn + 3 < 4500)
    (h : ps x2 (f_draftSlot, f_slotTokens, f_slotRoots, f_itemArgument, f_itemLeft, f_itemRight, f_itemChoice, f_nodeFresh, f_nodeBusy, f_nodeNumber, f_nodePartial, f_modeRead, f_modeDemand, f_modeEnter, f_modeGive, f_placeNodes, f_defs, f_maxTokens, nI D, f_maxPrice, nI L, f_draftTarget, f_draftMade, rs, nI pr, nI pk, ou, md, nA, nB, nI it, nI mz, nI hi, nI (nn + m), nI nf, a_slotUsed, a_slotArity, a_slotLocals, a_slotSize, a_tokenKind, a_tokenValue, a_tokenSpan, a_roots, iS, iA, iB, mN, mP, mB, mH, gx_rg nS nn m (fun _ => 0), gx_rg nC nn m (fun i => a_roots (4 * d + i)), gx_rg nE nn m (fun _ => x2), gx_rg nP nn m (fun _ => 1), gx_rg nG nn m (fun _ => 0), nW, fA, fL)) :
    ∀ t i, i + t = m → wX_newFrame_93 ps (nI d) x2 (nI m) (t + 1) (nI i) f_draftSlot f_slotTokens f_slotRoots f_itemArgument f_itemLeft f_itemRight f_itemChoice f_nodeFresh f_nodeBusy f_nodeNumber f_nodePartial f_modeRead f_modeDemand f_modeEnter f_modeGive f_placeNodes f_defs f_maxTokens (nI D) f_maxPrice (nI L) f_draftTarget f_draftMade rs (nI pr) (nI pk) ou md nA nB (nI it) (nI mz) (nI hi) (nI (nn + i)) (nI nf) a_slotUsed a_slotArity a_slotLocals a_slotSize a_tokenKind a_tokenValue a_tokenSpan a_roots iS iA iB mN mP mB mH (gx_rg nS nn i (fun _ => 0)) (gx_rg nC nn i (fun i => a_roots (4 * d + i))) (gx_rg nE nn i (fun _ => x2)) (gx_rg nP nn i (fun _ => 1)) (gx_rg nG nn i (fun _ => 0)) nW fA fL
  | 0, i, e => by
    obtain rfl : i = m := e
    exact br_t (Int32.le_refl _) h
  | t + 1, i, e => by
    have e4 : nI d * 4 + nI i = nI (4 * d + i) := by rw [ga_x4, nI_add, Nat.mul_comm]
    have c4 : (nI d * 4 + nI i).toNatClampNeg = 4 * d + i := pk_cl _ e4
    refine br_f (nI_ge (by omega) (by omega)) ⟨pk_in _ 36 (by omega) e4, ?_⟩
    rw [c4]
    refine gx_new (by omega) (nm_r (nI_1 i) ?_)
    have := gx_nf93 hd hm hn h t (i + 1) (by omega)
    rw [← gx_rgs nS, ← gx_rgs nC, ← gx_rgs nE, ← gx_rgs nP, ← gx_rgs nG] at this
    exact this
theorem gx_nf25 {ps : Int32 → SX → Prop} {d a m : Nat} (hd : d < 8) (hm : m ≤ 3) (hn : nn + 3 < 4500) (hit : it ≤ 200) (ha : a ≤ it) (ha4 : a ≤ 4) (hf : nf < 130) (hlc : a_slotLocals d = nI m)
    (h : ps (nI nf) (f_draftSlot, f_slotTokens, f_slotRoots, f_itemArgument, f_itemLeft, f_itemRight, f_itemChoice, f_nodeFresh, f_nodeBusy, f_nodeNumber, f_nodePartial, f_modeRead, f_modeDemand, f_modeEnter, f_modeGive, f_placeNodes, f_defs, f_maxTokens, nI D, f_maxPrice, nI L, f_draftTarget, f_draftMade, rs, nI pr, nI pk, ou, md, nA, nB, nI (it - a), nI mz, nI hi, nI (nn + m), nI (nf + 1), a_slotUsed, a_slotArity, a_slotLocals, a_slotSize, a_tokenKind, a_tokenValue, a_tokenSpan, a_roots, iS, iA, iB, mN, mP, mB, mH, gx_rg nS nn m (fun _ => 0), gx_rg nC nn m (fun i => a_roots (4 * d + i)), gx_rg nE nn m (fun _ => nI nf), gx_rg nP nn m (fun _ => 1), gx_rg nG nn m (fun _ => 0), nW, gp_mv fA iA nf a it, upd fL nf (nI nn))) :
    ∀ t i, i + t = a → wX_newFrame_25 ps (nI d) (nI nf) (nI a) f_draftSlot f_slotTokens f_slotRoots f_itemArgument f_itemLeft f_itemRight f_itemChoice f_nodeFresh f_nodeBusy f_nodeNumber f_nodePartial f_modeRead f_modeDemand f_modeEnter f_modeGive f_placeNodes f_defs f_maxTokens (nI D) f_maxPrice (nI L) f_draftTarget f_draftMade rs (nI pr) (nI pk) ou md nA nB (nI it) (nI mz) (nI hi) (nI nn) (nI (nf + 1)) (t + 1) (nI i) a_slotUsed a_slotArity a_slotLocals a_slotSize a_tokenKind a_tokenValue a_tokenSpan a_roots iS iA iB mN mP mB mH nS nC nE nP nG nW (gp_mv fA iA nf i it) fL
  | 0, i, e => by
    obtain rfl : i = a := e
    have vf : vp_in (nI nf) 130 := ga_in (by omega)
    have cf : (nI nf).toNatClampNeg = nf := nI_clamp (by omega)
    have vd : vp_in (nI d) 9 := ga_in (by omega)
    have cd : (nI d).toNatClampNeg = d := nI_clamp (by omega)
    refine br_t (Int32.le_refl _) (nm_r (pk_sub ha) ⟨vf, nm_r (e' := upd fL nf (nI nn)) (by rw [cf]) ⟨vd, nm_r (e' := nI m) (by rw [cd, hlc]) ⟨m + 1, ?_⟩⟩⟩)
    have := gx_nf93 (a_roots := a_roots) (nS := nS) (nC := nC) (nE := nE) (nP := nP) (nG := nG) hd hm hn h m 0 (by omega)
    rw [gx_rg0, gx_rg0, gx_rg0, gx_rg0, gx_rg0] at this
    exact this
  | t + 1, i, e => by
    have e1 : nI it - 1 - nI i = nI (it - 1 - i) := by rw [ga_s (by omega), pk_sub (by omega)]
    have v1 : vp_in (nI it - 1 - nI i) 200 := pk_in _ 200 (by omega) e1
    have c1 : (nI it - 1 - nI i).toNatClampNeg = it - 1 - i := pk_cl _ e1
    have e4 : nI nf * 4 + nI i = nI (4 * nf + i) := by rw [ga_x4, nI_add, Nat.mul_comm]
    have v4 : vp_in (nI nf * 4 + nI i) 520 := pk_in _ 520 (by omega) e4
    have c4 : (nI nf * 4 + nI i).toNatClampNeg = 4 * nf + i := pk_cl _ e4
    refine br_f (nI_ge (by omega) (by omega)) ⟨v1, v4, nm_r (e' := gp_mv fA iA nf (i + 1) it) (by rw [c1, c4]; exact gz_mvs _ _ _ _ _) (nm_r (nI_1 i) ?_)⟩
    exact gx_nf25 hd hm hn hit ha ha4 hf hlc h t (i + 1) (by omega)
theorem gx_nF {ps : Int32 → SX → Prop} {d a m : Nat} (hd : d < 8) (hm : m ≤ 3) (hn : nn + 3 < 4500) (hit : it ≤ 200) (ha : a ≤ it) (ha4 : a ≤ 4) (hf : nf < 130) (har : a_slotArity d = nI a) (hlc : a_slotLocals d = nI m)
    (h : ps (nI nf) (f_draftSlot, f_slotTokens, f_slotRoots, f_itemArgument, f_itemLeft, f_itemRight, f_itemChoice, f_nodeFresh, f_nodeBusy, f_nodeNumber, f_nodePartial, f_modeRead, f_modeDemand, f_modeEnter, f_modeGive, f_placeNodes, f_defs, f_maxTokens, nI D, f_maxPrice, nI L, f_draftTarget, f_draftMade, rs, nI pr, nI pk, ou, md, nA, nB, nI (it - a), nI mz, nI hi, nI (nn + m), nI (nf + 1), a_slotUsed, a_slotArity, a_slotLocals, a_slotSize, a_tokenKind, a_tokenValue, a_tokenSpan, a_roots, iS, iA, iB, mN, mP, mB, mH, gx_rg nS nn m (fun _ => 0), gx_rg nC nn m (fun i => a_roots (4 * d + i)), gx_rg nE nn m (fun _ => nI nf), gx_rg nP nn m (fun _ => 1), gx_rg nG nn m (fun _ => 0), nW, gp_mv fA iA nf a it, upd fL nf (nI nn))) :
    wpX_newFrame ps (f_draftSlot, f_slotTokens, f_slotRoots, f_itemArgument, f_itemLeft, f_itemRight, f_itemChoice, f_nodeFresh, f_nodeBusy, f_nodeNumber, f_nodePartial, f_modeRead, f_modeDemand, f_modeEnter, f_modeGive, f_placeNodes, f_defs, f_maxTokens, nI D, f_maxPrice, nI L, f_draftTarget, f_draftMade, rs, nI pr, nI pk, ou, md, nA, nB, nI it, nI mz, nI hi, nI nn, nI nf, a_slotUsed, a_slotArity, a_slotLocals, a_slotSize, a_tokenKind, a_tokenValue, a_tokenSpan, a_roots, iS, iA, iB, mN, mP, mB, mH, nS, nC, nE, nP, nG, nW, fA, fL) (nI d) := by
  have vd : vp_in (nI d) 9 := ga_in (by omega)
  have cd : (nI d).toNatClampNeg = d := nI_clamp (by omega)
  refine nm_r (nI_1 nf) ⟨vd, nm_r (e' := nI a) (by rw [cd, har]) ⟨a + 1, ?_⟩⟩
  have := gx_nf25 (fA := fA) (iA := iA) hd hm hn hit ha ha4 hf hlc h a 0 (by omega)
  rw [gz_mv0] at this
  exact this
theorem gx_call {ps : SX → Prop} {d a m : Nat} (hp : pr + 32 ≤ L) (hL : L ≤ 4000) (hd : d < 8) (hm : m ≤ 3) (hn : nn + 3 < 4500) (hit : it ≤ 200) (ha : a ≤ it) (ha4 : a ≤ 4) (hf : nf < 130) (har : a_slotArity d = nI a) (hlc : a_slotLocals d = nI m)
    (h : ps (f_draftSlot, f_slotTokens, f_slotRoots, f_itemArgument, f_itemLeft, f_itemRight, f_itemChoice, f_nodeFresh, f_nodeBusy, f_nodeNumber, f_nodePartial, f_modeRead, f_modeDemand, f_modeEnter, f_modeGive, f_placeNodes, f_defs, f_maxTokens, nI D, f_maxPrice, nI L, f_draftTarget, f_draftMade, rs, nI (pr + 32), nI pk, ou, 0, a_roots (4 * d + 3), nI nf, nI (it - a), nI mz, nI hi, nI (nn + m), nI (nf + 1), a_slotUsed, a_slotArity, a_slotLocals, a_slotSize, a_tokenKind, a_tokenValue, a_tokenSpan, a_roots, iS, iA, iB, mN, mP, mB, mH, gx_rg nS nn m (fun _ => 0), gx_rg nC nn m (fun i => a_roots (4 * d + i)), gx_rg nE nn m (fun _ => nI nf), gx_rg nP nn m (fun _ => 1), gx_rg nG nn m (fun _ => 0), nW, gp_mv fA iA nf a it, upd fL nf (nI nn))) :
    wpX_call ps (f_draftSlot, f_slotTokens, f_slotRoots, f_itemArgument, f_itemLeft, f_itemRight, f_itemChoice, f_nodeFresh, f_nodeBusy, f_nodeNumber, f_nodePartial, f_modeRead, f_modeDemand, f_modeEnter, f_modeGive, f_placeNodes, f_defs, f_maxTokens, nI D, f_maxPrice, nI L, f_draftTarget, f_draftMade, rs, nI pr, nI pk, ou, md, nA, nB, nI it, nI mz, nI hi, nI nn, nI nf, a_slotUsed, a_slotArity, a_slotLocals, a_slotSize, a_tokenKind, a_tokenValue, a_tokenSpan, a_roots, iS, iA, iB, mN, mP, mB, mH, nS, nC, nE, nP, nG, nW, fA, fL) (nI d) := by
  have e4 : nI d * 4 + 3 = nI (4 * d + 3) := by rw [ga_x4, show (3 : Int32) = nI 3 from rfl, nI_add, Nat.mul_comm]
  have v4 : vp_in (nI d * 4 + 3) 36 := pk_in _ 36 (by omega) e4
  have c4 : (nI d * 4 + 3).toNatClampNeg = 4 * d + 3 := pk_cl _ e4
  unfold wpX_call
  refine gx_pay 32 hp hL ?_
  refine br_f (by decide) ?_
  refine gx_nF hd hm hn hit ha ha4 hf har hlc ?_
  refine ⟨v4, ?_⟩
  rw [c4]
  exact h
theorem gx_callN {ps : SX → Prop} {d : Nat} (hp : ¬ pr + 32 ≤ L) (hp2 : pr ≤ L) (h : ps (f_draftSlot, f_slotTokens, f_slotRoots, f_itemArgument, f_itemLeft, f_itemRight, f_itemChoice, f_nodeFresh, f_nodeBusy, f_nodeNumber, f_nodePartial, f_modeRead, f_modeDemand, f_modeEnter, f_modeGive, f_placeNodes, f_defs, f_maxTokens, nI D, f_maxPrice, nI L, f_draftTarget, f_draftMade, rs, nI pr, nI pk, 3, md, nA, nB, nI it, nI mz, nI hi, nI nn, nI nf, a_slotUsed, a_slotArity, a_slotLocals, a_slotSize, a_tokenKind, a_tokenValue, a_tokenSpan, a_roots, iS, iA, iB, mN, mP, mB, mH, nS, nC, nE, nP, nG, nW, fA, fL)) : wpX_call ps (f_draftSlot, f_slotTokens, f_slotRoots, f_itemArgument, f_itemLeft, f_itemRight, f_itemChoice, f_nodeFresh, f_nodeBusy, f_nodeNumber, f_nodePartial, f_modeRead, f_modeDemand, f_modeEnter, f_modeGive, f_placeNodes, f_defs, f_maxTokens, nI D, f_maxPrice, nI L, f_draftTarget, f_draftMade, rs, nI pr, nI pk, ou, md, nA, nB, nI it, nI mz, nI hi, nI nn, nI nf, a_slotUsed, a_slotArity, a_slotLocals, a_slotSize, a_tokenKind, a_tokenValue, a_tokenSpan, a_roots, iS, iA, iB, mN, mP, mB, mH, nS, nC, nE, nP, nG, nW, fA, fL) (nI d) := by
  unfold wpX_call
  refine gx_payN 32 hp hp2 (by omega) ?_
  exact br_t rfl h
end V
end GX
end
section
section GX2
section V
variable {f_draftSlot f_slotTokens f_slotRoots f_itemArgument f_itemLeft f_itemRight f_itemChoice f_nodeFresh f_nodeBusy f_nodeNumber f_nodePartial f_modeRead f_modeDemand f_modeEnter f_modeGive f_placeNodes f_defs f_maxTokens f_maxPrice f_draftTarget f_draftMade : Int32} {a_slotUsed a_slotArity a_slotLocals a_slotSize a_tokenKind a_tokenValue a_tokenSpan a_roots : Nat → Int32} {D L pr pk it mz hi nn nf : Nat} {rs ou md nA nB : Int32} {iS iA iB mN mP mB mH nS nC nE nP nG nW fA fL : Nat → Int32} {k n : Nat}
theorem gx_set98 {ps : SX → Prop} {nd hd q : Nat} (hn : nd < 4500) (hh4 : hd ≤ 4) (hit : it ≤ 200) (hhd : hd ≤ it) (hmk : mz < 4500) (hmh : mH mz = nI q) (hq : q ≤ 200) (hh : hi ≤ 200)
    (h : ps (f_draftSlot, f_slotTokens, f_slotRoots, f_itemArgument, f_itemLeft, f_itemRight, f_itemChoice, f_nodeFresh, f_nodeBusy, f_nodeNumber, f_nodePartial, f_modeRead, f_modeDemand, f_modeEnter, f_modeGive, f_placeNodes, f_defs, f_maxTokens, nI D, f_maxPrice, nI L, f_draftTarget, f_draftMade, rs, nI pr, nI pk, ou, md, nA, nB, nI it, nI mz, nI (gp_hx hi q), nI nn, nI nf, a_slotUsed, a_slotArity, a_slotLocals, a_slotSize, a_tokenKind, a_tokenValue, a_tokenSpan, a_roots, iS, iA, iB, mN, mP, mB, mH, nS, nC, nE, nP, nG, gp_mv nW iA nd hd it, fA, fL)) :
    ∀ t i, i + t = hd → wX_settle_98 ps (nI nd) (nI hd) f_draftSlot f_slotTokens f_slotRoots f_itemArgument f_itemLeft f_itemRight f_itemChoice f_nodeFresh f_nodeBusy f_nodeNumber f_nodePartial f_modeRead f_modeDemand f_modeEnter f_modeGive f_placeNodes f_defs f_maxTokens (nI D) f_maxPrice (nI L) f_draftTarget f_draftMade rs (nI pr) (nI pk) ou md nA nB (nI it) (nI mz) (nI hi) (nI nn) (nI nf) (t + 1) (nI i) a_slotUsed a_slotArity a_slotLocals a_slotSize a_tokenKind a_tokenValue a_tokenSpan a_roots iS iA iB mN mP mB mH nS nC nE nP nG (gp_mv nW iA nd i it) fA fL
  | 0, i, e => by
    obtain rfl : i = hd := e
    have vm : vp_in (nI mz) 4500 := ga_in (by omega)
    have cm : (nI mz).toNatClampNeg = mz := nI_clamp (by omega)
    refine br_t (Int32.le_refl _) ⟨vm, ?_⟩
    rw [cm, hmh]
    unfold gp_hx at h
    by_cases w : q ≤ hi
    · rw [if_pos w] at h
      exact br_t (nI_le w (by omega)) h
    · rw [if_neg w] at h
      exact br_f (nI_ge (by omega) (by omega)) ⟨vm, nm_e h⟩
  | t + 1, i, e => by
    have e1 : nI it - 1 - nI i = nI (it - 1 - i) := by rw [ga_s (by omega), pk_sub (by omega)]
    have v1 : vp_in (nI it - 1 - nI i) 200 := pk_in _ 200 (by omega) e1
    have c1 : (nI it - 1 - nI i).toNatClampNeg = it - 1 - i := pk_cl _ e1
    have e4 : nI nd * 4 + nI i = nI (4 * nd + i) := by rw [ga_x4, nI_add, Nat.mul_comm]
    have v4 : vp_in (nI nd * 4 + nI i) 18000 := pk_in _ 18000 (by omega) e4
    have c4 : (nI nd * 4 + nI i).toNatClampNeg = 4 * nd + i := pk_cl _ e4
    refine br_f (nI_ge (by omega) (by omega)) ⟨v1, v4, nm_r (e' := gp_mv nW iA nd (i + 1) it) (by rw [c1, c4]; exact gz_mvs _ _ _ _ _) (nm_r (nI_1 i) ?_)⟩
    exact gx_set98 hn hh4 hit hhd hmk hmh hq hh h t (i + 1) (by omega)
theorem gx_settle {ps : SX → Prop} {p0 p1 : Int32} {nd b p q : Nat} (hmk : mz < 4500) (e1 : mN mz = nI nd) (e2 : mB mz = nI b) (e3 : mP mz = nI p) (e4 : mH mz = nI q) (hn : nd < 4500) (hb : b ≤ it) (hb4 : it ≤ b + 4) (hit : it ≤ 200) (hp : p ≤ pr) (hpr : pr ≤ 5000) (hbh : b ≤ hi) (hh : hi ≤ 200) (hq : q ≤ 200)
    (h : ps (f_draftSlot, f_slotTokens, f_slotRoots, f_itemArgument, f_itemLeft, f_itemRight, f_itemChoice, f_nodeFresh, f_nodeBusy, f_nodeNumber, f_nodePartial, f_modeRead, f_modeDemand, f_modeEnter, f_modeGive, f_placeNodes, f_defs, f_maxTokens, nI D, f_maxPrice, nI L, f_draftTarget, f_draftMade, rs, nI pr, nI pk, ou, md, nA, nB, nI it, nI mz, nI (gp_hx hi q), nI nn, nI nf, a_slotUsed, a_slotArity, a_slotLocals, a_slotSize, a_tokenKind, a_tokenValue, a_tokenSpan, a_roots, iS, iA, iB, mN, mP, mB, mH, upd nS nd p0, upd nC nd p1, upd nE nd (nI (it - b)), upd nP nd (nI (pr - p)), upd nG nd (nI (hi - b)), gp_mv nW iA nd (it - b) it, fA, fL)) :
    wpX_settle ps (f_draftSlot, f_slotTokens, f_slotRoots, f_itemArgument, f_itemLeft, f_itemRight, f_itemChoice, f_nodeFresh, f_nodeBusy, f_nodeNumber, f_nodePartial, f_modeRead, f_modeDemand, f_modeEnter, f_modeGive, f_placeNodes, f_defs, f_maxTokens, nI D, f_maxPrice, nI L, f_draftTarget, f_draftMade, rs, nI pr, nI pk, ou, md, nA, nB, nI it, nI (mz + 1), nI hi, nI nn, nI nf, a_slotUsed, a_slotArity, a_slotLocals, a_slotSize, a_tokenKind, a_tokenValue, a_tokenSpan, a_roots, iS, iA, iB, mN, mP, mB, mH, nS, nC, nE, nP, nG, nW, fA, fL) p0 p1 := by
  have vm : vp_in (nI mz) 4500 := ga_in (by omega)
  have cm : (nI mz).toNatClampNeg = mz := nI_clamp (by omega)
  have vn : vp_in (nI nd) 4500 := ga_in (by omega)
  have cn : (nI nd).toNatClampNeg = nd := nI_clamp (by omega)
  refine nm_r (nI_pred mz) ⟨vm, nm_r (e' := nI nd) (by rw [cm, e1]) ⟨vm, nm_r (e' := nI b) (by rw [cm, e2]) (nm_r (pk_sub hb) ⟨vn, nm_r (e' := upd nS nd p0) (by rw [cn]) ⟨vn, nm_r (e' := upd nC nd p1) (by rw [cn]) ⟨vn, nm_r (e' := upd nE nd (nI (it - b))) (by rw [cn]) ⟨vm, vn, nm_r (e' := upd nP nd (nI (pr - p))) (by rw [cn, cm, e3, pk_sub hp]) ⟨vn, nm_r (e' := upd nG nd (nI (hi - b))) (by rw [cn, pk_sub hbh]) ⟨it - b + 1, ?_⟩⟩⟩⟩⟩⟩)⟩⟩
  have := gx_set98 (nW := nW) (iA := iA) hn (by omega) hit (by omega) hmk e4 hq hh h (it - b) 0 (by omega)
  rw [gz_mv0] at this
  exact this
theorem gx_rep65 {ps : SX → Prop} {nd : Nat} (hn : nd < 4500) (hk : k ≤ 4) (hD : D ≤ 200) (hh : hi ≤ 200) (hpk : pk ≤ 200) (h1 : it + k ≤ hi) (h2 : it + k ≤ pk) (h3 : it + k ≤ D)
    (h : ps (f_draftSlot, f_slotTokens, f_slotRoots, f_itemArgument, f_itemLeft, f_itemRight, f_itemChoice, f_nodeFresh, f_nodeBusy, f_nodeNumber, f_nodePartial, f_modeRead, f_modeDemand, f_modeEnter, f_modeGive, f_placeNodes, f_defs, f_maxTokens, nI D, f_maxPrice, nI L, f_draftTarget, f_draftMade, rs, nI pr, nI pk, ou, 2, nC nd, 0, nI (it + k), nI mz, nI hi, nI nn, nI nf, a_slotUsed, a_slotArity, a_slotLocals, a_slotSize, a_tokenKind, a_tokenValue, a_tokenSpan, a_roots, gx_rg iS it k (fun _ => 0), gx_rg iA it k (fun j => nW (4 * nd + (k - 1 - j))), gx_rg iB it k (fun _ => 0), mN, mP, mB, mH, nS, nC, nE, nP, nG, nW, fA, fL)) :
    ∀ t i (x2 : Int32), i + t = k → x2 = nI t - 1 → wX_replay_65 ps (nI nd) (t + 1) x2 f_draftSlot f_slotTokens f_slotRoots f_itemArgument f_itemLeft f_itemRight f_itemChoice f_nodeFresh f_nodeBusy f_nodeNumber f_nodePartial f_modeRead f_modeDemand f_modeEnter f_modeGive f_placeNodes f_defs f_maxTokens (nI D) f_maxPrice (nI L) f_draftTarget f_draftMade rs (nI pr) (nI pk) ou md nA nB (nI (it + i)) (nI mz) (nI hi) (nI nn) (nI nf) a_slotUsed a_slotArity a_slotLocals a_slotSize a_tokenKind a_tokenValue a_tokenSpan a_roots (gx_rg iS it i (fun _ => 0)) (gx_rg iA it i (fun j => nW (4 * nd + (k - 1 - j)))) (gx_rg iB it i (fun _ => 0)) mN mP mB mH nS nC nE nP nG nW fA fL
  | 0, i, x2, e, ex => by
    subst ex
    obtain rfl : i = k := e
    have vn : vp_in (nI nd) 4500 := ga_in (by omega)
    have cn : (nI nd).toNatClampNeg = nd := nI_clamp (by omega)
    refine br_t ga_m1neg ⟨vn, ?_⟩
    rw [cn]
    exact h
  | t + 1, i, x2, e, ex => by
    rw [nI_pred] at ex
    subst ex
    have e4 : nI nd * 4 + nI t = nI (4 * nd + t) := by rw [ga_x4, nI_add, Nat.mul_comm]
    have v4 : vp_in (nI nd * 4 + nI t) 18000 := pk_in _ 18000 (by omega) e4
    have c4 : (nI nd * 4 + nI t).toNatClampNeg = 4 * nd + t := pk_cl _ e4
    refine br_f (nI_pos (by omega)) ⟨v4, ?_⟩
    rw [c4]
    have hx1 : gp_hx hi (it + i + 1) = hi := if_pos (by omega)
    have hx2 : gp_hx pk (it + i + 1) = pk := if_pos (by omega)
    refine gx_push (by omega) hD hh hpk ?_
    rw [hx1, hx2]
    refine nm_r (gl_am1 _) ?_
    have := gx_rep65 hn hk hD hh hpk h1 h2 h3 h t (i + 1) _ (by omega) rfl
    rw [← gx_rgs iS, ← gx_rgs iA, ← gx_rgs iB] at this
    rw [show k - 1 - i = t from by omega] at this
    exact this
theorem gx_args (hit : it ≤ 200) (hn : n ≤ 4) : ∀ t c (x3 : Int32), c + t = n → c ≤ it → x3 = nI (it - c) - 1 → (∀ j, j < c → iS (it - 1 - j) = 0) →
    ∃ k, k ≤ n ∧ k ≤ it ∧ (∀ j, j < k → iS (it - 1 - j) = 0) ∧ (k = n ∨ k = it ∨ ¬ iS (it - 1 - k) = 0) ∧ ∀ ps : Int32 → Prop, ps (nI k) → wX_argumentsOnTop_9 ps (nI n) f_draftSlot f_slotTokens f_slotRoots f_itemArgument f_itemLeft f_itemRight f_itemChoice f_nodeFresh f_nodeBusy f_nodeNumber f_nodePartial f_modeRead f_modeDemand f_modeEnter f_modeGive f_placeNodes f_defs f_maxTokens (nI D) f_maxPrice (nI L) f_draftTarget f_draftMade rs (nI pr) (nI pk) ou md nA nB (nI it) (nI mz) (nI hi) (nI nn) (nI nf) a_slotUsed a_slotArity a_slotLocals a_slotSize a_tokenKind a_tokenValue a_tokenSpan a_roots iS iA iB mN mP mB mH nS nC nE nP nG nW fA fL (t + 1) (nI c) x3
  | 0, c, x3, e, hc, ex, h => by
    obtain rfl : c = n := e
    refine ⟨c, Nat.le_refl _, hc, h, Or.inl rfl, fun ps hp => ?_⟩
    by_cases g : x3 < 0
    · exact br_t g hp
    · exact br_f g (br_t (Int32.le_refl _) hp)
  | t + 1, c, x3, e, hc, ex, h => by
    by_cases g : c = it
    · refine ⟨c, by omega, hc, h, Or.inr (Or.inl g), fun ps hp => ?_⟩
      subst ex
      rw [show it - c = 0 from by omega]
      exact br_t ga_m1neg hp
    · rw [ga_s (by omega)] at ex
      subst ex
      have c2 : (nI (it - c - 1)).toNatClampNeg = it - 1 - c := by rw [nI_clamp (by omega)]; omega
      by_cases z : iS (it - 1 - c) = 0
      · obtain ⟨k, k1, k2, k3, k4, k5⟩ := gx_args hit hn t (c + 1) (nI (it - (c + 1)) - 1) (by omega) (by omega) rfl (fun j hj => by
          by_cases w : j = c
          · subst w; exact z
          · exact h j (by omega))
        refine ⟨k, k1, k2, k3, k4, fun ps hp => br_f (nI_pos (by omega)) (br_f (nI_ge (by omega) (by omega)) ⟨ga_in (by omega), br_t (by rw [c2]; exact z) (nm_r (nI_1 c) (nm_r (e' := nI (it - (c + 1)) - 1) ?_ (k5 ps hp)))⟩)⟩
        rw [gl_am1]; exact congrArg (fun z => nI z - 1) (by omega)
      · exact ⟨c, by omega, hc, h, Or.inr (Or.inr z), fun ps hp => br_f (nI_pos (by omega)) (br_f (nI_ge (by omega) (by omega)) ⟨ga_in (by omega), br_f (by rw [c2]; exact z) hp⟩)⟩
theorem gx_argsT (hit : it ≤ 200) (hn : n ≤ 4) : ∃ k, k ≤ n ∧ k ≤ it ∧ (∀ j, j < k → iS (it - 1 - j) = 0) ∧ (k = n ∨ k = it ∨ ¬ iS (it - 1 - k) = 0) ∧ ∀ ps : Int32 → Prop, ps (nI k) → wpX_argumentsOnTop ps (f_draftSlot, f_slotTokens, f_slotRoots, f_itemArgument, f_itemLeft, f_itemRight, f_itemChoice, f_nodeFresh, f_nodeBusy, f_nodeNumber, f_nodePartial, f_modeRead, f_modeDemand, f_modeEnter, f_modeGive, f_placeNodes, f_defs, f_maxTokens, nI D, f_maxPrice, nI L, f_draftTarget, f_draftMade, rs, nI pr, nI pk, ou, md, nA, nB, nI it, nI mz, nI hi, nI nn, nI nf, a_slotUsed, a_slotArity, a_slotLocals, a_slotSize, a_tokenKind, a_tokenValue, a_tokenSpan, a_roots, iS, iA, iB, mN, mP, mB, mH, nS, nC, nE, nP, nG, nW, fA, fL) (nI n) := by
  obtain ⟨k, k1, k2, k3, k4, k5⟩ := gx_args (f_draftSlot := f_draftSlot) (f_slotTokens := f_slotTokens) (f_slotRoots := f_slotRoots) (f_itemArgument := f_itemArgument) (f_itemLeft := f_itemLeft) (f_itemRight := f_itemRight) (f_itemChoice := f_itemChoice) (f_nodeFresh := f_nodeFresh) (f_nodeBusy := f_nodeBusy) (f_nodeNumber := f_nodeNumber) (f_nodePartial := f_nodePartial) (f_modeRead := f_modeRead) (f_modeDemand := f_modeDemand) (f_modeEnter := f_modeEnter) (f_modeGive := f_modeGive) (f_placeNodes := f_placeNodes) (f_defs := f_defs) (f_maxTokens := f_maxTokens) (f_maxPrice := f_maxPrice) (f_draftTarget := f_draftTarget) (f_draftMade := f_draftMade) (a_slotUsed := a_slotUsed) (a_slotArity := a_slotArity) (a_slotLocals := a_slotLocals) (a_slotSize := a_slotSize) (a_tokenKind := a_tokenKind) (a_tokenValue := a_tokenValue) (a_tokenSpan := a_tokenSpan) (a_roots := a_roots) (D := D) (L := L) (pr := pr) (pk := pk) (it := it) (mz := mz) (hi := hi) (nn := nn) (nf := nf) (rs := rs) (ou := ou) (md := md) (nA := nA) (nB := nB) (iS := iS) (iA := iA) (iB := iB) (mN := mN) (mP := mP) (mB := mB) (mH := mH) (nS := nS) (nC := nC) (nE := nE) (nP := nP) (nG := nG) (nW := nW) (fA := fA) (fL := fL) hit hn n 0 (nI (it - 0) - 1) (by omega) (by omega) rfl (fun j hj => absurd hj (by omega))
  exact ⟨k, k1, k2, k3, k4, fun ps hp => nm_r (e' := nI (it - 0) - 1) rfl ⟨n + 1, k5 ps hp⟩⟩
end V
end GX2
end
section
section GI
def gi_z : Nat → Int32 := fun _ => 0
/-- a node's own reading -/
def gi_C (H : gc_H) (n : Nat) : gc_C := if n < 8 then gc_cE n else gc_cR (gh_oT H n) (gh_oF H n)
def gi_F (G : gc_G) (us : Nat → Prop) (lc : Nat → Nat) (rt : Nat → Nat → Nat) (H : gc_H) (fA fL : Nat → Int32) : Prop :=
  ∀ f, f < gh_nf H → gh_fd H f < 8 ∧ us (gh_fd H f) ∧ (∀ i, i < gg_ar G (gh_fd H f) → fA (4 * f + i) = nI (gh_fa H f i) ∧ 8 ≤ gh_fa H f i ∧ gh_fa H f i < gh_nn H) ∧
    ∃ l, fL f = nI l ∧ 8 ≤ l ∧ l + lc (gh_fd H f) ≤ gh_nn H ∧ ∀ i, i < lc (gh_fd H f) → gh_oT H (l + i) = rt (gh_fd H f) i ∧ gh_oF H (l + i) = f
def gi_N2 (G : gc_G) (H : gc_H) (nC nP nG : Nat → Int32) (n : Nat) : Prop :=
  ∃ p h, nP n = nI p ∧ nG n = nI h ∧ 1 ≤ p ∧ p ≤ 4000 ∧ h ≤ 200 ∧ gc_ST G H (gi_C H n) gi_z gi_z gi_z 0 0 (gc_cV (nC n)) gi_z gi_z gi_z 0 p h
def gi_N3 (G : gc_G) (us : Nat → Prop) (H : gc_H) (nC nE nP nG nW : Nat → Int32) (n : Nat) : Prop :=
  ∃ p h d k, nP n = nI p ∧ nG n = nI h ∧ 1 ≤ p ∧ p ≤ 4000 ∧ h ≤ 200 ∧ nC n = nI d ∧ d < 8 ∧ us d ∧ nE n = nI k ∧ k < gg_ar G d ∧ k ≤ h ∧
    gc_ST G H (gi_C H n) gi_z gi_z gi_z 0 0 (gc_cE d) gi_z (fun j => nW (4 * n + (k - 1 - j))) gi_z k p h
def gi_Nd (G : gc_G) (us : Nat → Prop) (H : gc_H) (mz : Nat) (nd : Nat → Nat) (nS nC nE nP nG nW : Nat → Int32) (n : Nat) : Prop :=
  (nS n = 0 ∧ (8 ≤ n → nC n = nI (gh_oT H n) ∧ nE n = nI (gh_oF H n) ∧ gh_oF H n < gh_nf H ∧ gg_T G (gh_fd H (gh_oF H n)) (gh_oT H n))) ∨
  (nS n = 1 ∧ ∃ i, i < mz ∧ nd i = n) ∨ (nS n = 2 ∧ gi_N2 G H nC nP nG n) ∨ (nS n = 3 ∧ gi_N3 G us H nC nE nP nG nW n)
def gi_Mk (G : gc_G) (H : gc_H) (c : gc_C) (nd bs ps hh : Nat → Nat) (it pr w : Nat) (mN mP mB mH iS iA iB : Nat → Int32) (i : Nat) : Prop :=
  mN i = nI (nd i) ∧ nd i < gh_nn H ∧ mB i = nI (bs i) ∧ bs i ≤ it ∧ (∀ j, j < i → bs j ≤ bs i) ∧ mP i = nI (ps i) ∧ ps i + w ≤ pr ∧
  (∃ q, mH i = nI q ∧ q ≤ 200 ∧ gc_Mx (hh i) (hh (i + 1)) q) ∧ bs i ≤ hh (i + 1) ∧ hh (i + 1) ≤ gg_D G ∧
  gc_ST G H (gi_C H (nd i)) gi_z gi_z gi_z (bs i) (bs i) c iS iA iB it (pr - ps i) (hh (i + 1))
def gi_U (G : gc_G) (H : gc_H) (hh : Nat → Nat) (w2 pr pk it mz hi nn nf : Nat) : Prop :=
  nf = gh_nf H ∧ nn = gh_nn H ∧ 8 ≤ nn ∧ pr ≤ gg_L G ∧ it ≤ hi ∧ pk ≤ gg_D G ∧ 32 * nf ≤ pr ∧ nn ≤ 10 + pr ∧ mz + w2 ≤ pr ∧ hh mz = hi ∧ hh 0 = pk
/-- the invariant of the component's run -/
def gi_I (G : gc_G) (us : Nat → Prop) (lc : Nat → Nat) (rt : Nat → Nat → Nat) (y0 : gc_Y) (H : gc_H) (nd bs ps hh : Nat → Nat) (c : gc_C) (w w2 : Nat) (pr pk it mz hi nn nf : Nat) (iS iA iB mN mP mB mH nS nC nE nP nG nW fA fL : Nat → Int32) : Prop :=
  gi_U G H hh w2 pr pk it mz hi nn nf ∧ gi_F G us lc rt H fA fL ∧ (∀ n, n < nn → gi_Nd G us H mz nd nS nC nE nP nG nW n) ∧
  (∀ i, i < mz → gi_Mk G H c nd bs ps hh it pr w mN mP mB mH iS iA iB i) ∧ gv_BT G H y0 c iS iA iB it pr pk

section V
variable {G : gc_G} {us : Nat → Prop} {lc : Nat → Nat} {rt : Nat → Nat → Nat} {y0 : gc_Y} {H H2 : gc_H} {nd bs ps hh hh2 : Nat → Nat} {c c2 : gc_C} {w w2 : Nat} {pr pk it mz hi nn nf : Nat} {iS iA iB mN mP mB mH nS nC nE nP nG nW fA fL : Nat → Int32} {iS2 iA2 iB2 : Nat → Int32} {it2 k hx : Nat}
theorem gi_hh (h : ∀ i, i < mz → gi_Mk G H c nd bs ps hh it pr w mN mP mB mH iS iA iB i) : ∀ t i, i + t = mz → hh mz ≤ hh i
  | 0, i, e => by
    obtain rfl : i = mz := e
    exact Nat.le_refl _
  | t + 1, i, e => by
    have := gi_hh h t (i + 1) (by omega)
    obtain ⟨_, _, _, _, _, _, _, ⟨q, _, _, hq⟩, _⟩ := h i (by omega)
    have := hq.1
    omega
theorem gi_Ce (hl : gc_Le H H2) {n : Nat} (hn : n < gh_nn H) : gi_C H2 n = gi_C H n := by
  unfold gi_C
  rw [(hl.2.2.2 n hn).1, (hl.2.2.2 n hn).2]
theorem gi_Nd_mo (hl : gc_Le H H2) {n : Nat} (hn : n < gh_nn H) (h : gi_Nd G us H mz nd nS nC nE nP nG nW n) : gi_Nd G us H2 mz nd nS nC nE nP nG nW n := by
  have e := hl.2.2.2 n hn
  rcases h with ⟨h1, h2⟩ | h | ⟨h1, p, q, h2⟩ | ⟨h1, p, q, d, k, a1, a2, a3, a4, a5, a6, a7, a8, a9, a10, a11, a12⟩
  · refine Or.inl ⟨h1, fun h8 => ?_⟩
    obtain ⟨b1, b2, b3, b4⟩ := h2 h8
    rw [e.1, e.2, (hl.2.2.1 _ b3).1]
    exact ⟨b1, b2, Nat.lt_of_lt_of_le b3 hl.1, b4⟩
  · exact Or.inr (Or.inl h)
  · refine Or.inr (Or.inr (Or.inl ⟨h1, p, q, ?_⟩))
    rw [gi_Ce hl hn]
    exact ⟨h2.1, h2.2.1, h2.2.2.1, h2.2.2.2.1, h2.2.2.2.2.1, gc_mono hl h2.2.2.2.2.2⟩
  · refine Or.inr (Or.inr (Or.inr ⟨h1, p, q, d, k, a1, a2, a3, a4, a5, a6, a7, a8, a9, a10, a11, ?_⟩))
    rw [gi_Ce hl hn]
    exact gc_mono hl a12
/-- the marks over one step -/
theorem gi_adv (hR : gc_RT G) (hl : gc_Le H H2) {w' bm : Nat} (hs : ∀ b, b ≤ bm → gc_ST G H2 c iS iA iB b it c2 iS2 iA2 iB2 it2 k hx) (hD : hx ≤ gg_D G) (hb : ∀ i, i < mz → bs i ≤ bm) (hi2 : ∀ i, i < mz → bs i ≤ it2)
    (hh3 : ∀ i, i ≤ mz → gc_Mx (hh2 i) (hh i) hx) (hw : w' ≤ w + k)
    (h : ∀ i, i < mz → gi_Mk G H c nd bs ps hh it pr w mN mP mB mH iS iA iB i) : ∀ i, i < mz → gi_Mk G H2 c2 nd bs ps hh2 it2 (pr + k) w' mN mP mB mH iS2 iA2 iB2 i := by
  intro i hi
  obtain ⟨a1, a2, a3, a4, a5, a6, a7, ⟨q, a8, a9, a10⟩, a11, a12, a13⟩ := h i hi
  have m1 := hh3 i (by omega)
  have m2 := hh3 (i + 1) (by omega)
  refine ⟨a1, Nat.lt_of_lt_of_le a2 hl.2.1, a3, hi2 i hi, a5, a6, by omega, ⟨q, a8, a9, ?_⟩, ?_, ?_, ?_⟩
  · unfold gc_Mx at *; omega
  · unfold gc_Mx at *; omega
  · unfold gc_Mx at *; omega
  · rw [gi_Ce hl a2, show pr + k - ps i = pr - ps i + k from by omega]
    exact gc_trans hR hl a13 (hs _ (hb i hi)) m2
theorem gi_w {w' w2' : Nat} (h : gi_I G us lc rt y0 H nd bs ps hh c w w2 pr pk it mz hi nn nf iS iA iB mN mP mB mH nS nC nE nP nG nW fA fL) (h1 : w' ≤ w) (h2 : w2' ≤ w2) : gi_I G us lc rt y0 H nd bs ps hh c w' w2' pr pk it mz hi nn nf iS iA iB mN mP mB mH nS nC nE nP nG nW fA fL := by
  obtain ⟨⟨u1, u2, u3, u4, u5, u6, u7, u8, u9, u10, u11⟩, f, n, m, b⟩ := h
  refine ⟨⟨u1, u2, u3, u4, u5, u6, u7, u8, by omega, u10, u11⟩, f, n, fun i hi => ?_, b⟩
  obtain ⟨a1, a2, a3, a4, a5, a6, a7, a8⟩ := m i hi
  exact ⟨a1, a2, a3, a4, a5, a6, by omega, a8⟩
/-- a step that keeps the heap and raises nothing -/
theorem gi_flat (hR : gc_RT G) (I : gi_I G us lc rt y0 H nd bs ps hh c w w2 pr pk it mz hi nn nf iS iA iB mN mP mB mH nS nC nE nP nG nW fA fL) {w' w2' bm : Nat} (hs : ∀ b, b ≤ bm → gc_ST G H c iS iA iB b it c2 iS2 iA2 iB2 it2 k it) (hb : ∀ i, i < mz → bs i ≤ bm) (hi2 : ∀ i, i < mz → bs i ≤ it2) (hit : it2 ≤ it) (hp : pr + k ≤ gg_L G) (hn1 : nf ≤ 1000) (hn2 : nn ≤ 5000) (hw : w' ≤ w + k) (hw2 : w2' ≤ w2 + k) :
    gi_I G us lc rt y0 H nd bs ps hh c2 w' w2' (pr + k) pk it2 mz hi nn nf iS2 iA2 iB2 mN mP mB mH nS nC nE nP nG nW fA fL := by
  obtain ⟨⟨u1, u2, u3, u4, u5, u6, u7, u8, u9, u10, u11⟩, f, n, m, b⟩ := I
  have hm := gi_hh m
  have h0 := hm mz 0 (by omega)
  refine ⟨⟨u1, u2, u3, hp, by omega, u6, by omega, by omega, by omega, u10, u11⟩, f, n, ?_, ?_⟩
  · refine gi_adv hR (gc_Le_rf _) hs (by omega) hb hi2 (fun i hi => ?_) hw m
    have := hm (mz - i) i (by omega)
    exact ⟨Nat.le_refl _, by omega, Or.inl rfl⟩
  · exact gv_go hR b (gc_Le_rf _) (by omega) (by omega) (hs 0 (Nat.zero_le _)) hp (by omega) ⟨Nat.le_refl _, by omega, Or.inl rfl⟩
end V
end GI
end
section
section GJ
/-- the heap with one node more; with one frame and its locals more -/
def gj_n (H : gc_H) (t f : Nat) : gc_H := (gh_nf H, gh_nn H + 1, gh_fd H, gh_fa H, fun q => if q = gh_nn H then t else gh_oT H q, fun q => if q = gh_nn H then f else gh_oF H q)
def gj_c (H : gc_H) (rt : Nat → Nat → Nat) (d m : Nat) (g : Nat → Nat) : gc_H := (gh_nf H + 1, gh_nn H + m, fun q => if q = gh_nf H then d else gh_fd H q, fun q i => if q = gh_nf H then g i else gh_fa H q i, fun q => if gh_nn H ≤ q then rt d (q - gh_nn H) else gh_oT H q, fun q => if gh_nn H ≤ q then gh_nf H else gh_oF H q)
theorem gj_n_le (H : gc_H) (t f : Nat) : gc_Le H (gj_n H t f) :=
  ⟨Nat.le_refl _, Nat.le_succ _, fun _ _ => ⟨rfl, fun _ => rfl⟩, fun n hn => ⟨if_neg (by omega), if_neg (by omega)⟩⟩
theorem gj_c_le (H : gc_H) (rt : Nat → Nat → Nat) (d m : Nat) (g : Nat → Nat) : gc_Le H (gj_c H rt d m g) :=
  ⟨Nat.le_succ _, Nat.le_add_right _ _, fun f hf => ⟨if_neg (by omega), fun i => if_neg (by omega)⟩, fun n hn => ⟨if_neg (by omega), if_neg (by omega)⟩⟩
section V
variable {G : gc_G} {us : Nat → Prop} {lc : Nat → Nat} {rt : Nat → Nat → Nat} {y0 : gc_Y} {H : gc_H} {nd bs ps hh : Nat → Nat} {c : gc_C} {w w2 : Nat} {pr pk it mz hi nn nf : Nat} {iS iA iB mN mP mB mH nS nC nE nP nG nW fA fL : Nat → Int32}
theorem gj_nF {t f : Nat} (h : gi_F G us lc rt H fA fL) : gi_F G us lc rt (gj_n H t f) fA fL := by
  intro q hq
  obtain ⟨h1, h2, h3, l, h4, h5, h6, h7⟩ := h q hq
  refine ⟨h1, h2, fun i hi => ?_, l, h4, h5, ?_, fun i hi => ?_⟩
  · obtain ⟨a, b, c⟩ := h3 i hi
    exact ⟨a, b, Nat.lt_succ_of_lt c⟩
  · exact Nat.le_succ_of_le h6
  · have hi' : i < lc (gh_fd H q) := hi
    have e : gh_oT (gj_n H t f) (l + i) = gh_oT H (l + i) ∧ gh_oF (gj_n H t f) (l + i) = gh_oF H (l + i) := (gj_n_le H t f).2.2.2 _ (by omega)
    rw [e.1, e.2]
    exact h7 i hi
theorem gj_nN {t f : Nat} {p0 p1 p2 : Int32} (R : gp_R G us lc rt) (h8 : 8 ≤ gh_nn H) (h : ∀ n, n < gh_nn H → gi_Nd G us H mz nd nS nC nE nP nG nW n)
    (hn : (p0 = 0 ∧ p1 = nI t ∧ p2 = nI f ∧ f < gh_nf H ∧ gg_T G (gh_fd H f) t) ∨ (p0 = 2 ∧ gg_k G t = 1 ∧ p1 = gg_v G t)) :
    ∀ n, n < gh_nn H + 1 → gi_Nd G us (gj_n H t f) mz nd (upd nS (gh_nn H) p0) (upd nC (gh_nn H) p1) (upd nE (gh_nn H) p2) (upd nP (gh_nn H) 1) (upd nG (gh_nn H) 0) nW n := by
  intro n hlt
  by_cases g : n = gh_nn H
  · subst g
    have eT : gh_oT (gj_n H t f) (gh_nn H) = t := if_pos rfl
    have eF : gh_oF (gj_n H t f) (gh_nn H) = f := if_pos rfl
    rcases hn with ⟨rfl, rfl, rfl, hn4, hn5⟩ | ⟨rfl, hn2, hn3⟩
    · refine Or.inl ⟨pk_us, fun _ => ?_⟩
      rw [eT, eF, pk_us, pk_us]
      exact ⟨rfl, rfl, hn4, hn5⟩
    · refine Or.inr (Or.inr (Or.inl ⟨pk_us, 1, 0, pk_us, pk_us, by omega, by omega, by omega, ?_⟩))
      have eC : gi_C (gj_n H t f) (gh_nn H) = gc_cR t f := by
        unfold gi_C
        rw [if_neg (by omega), eT, eF]
      rw [eC, pk_us, hn3]
      exact gp_sNum R hn2
  · have k := gi_Nd_mo (gj_n_le H t f) (n := n) (by omega) (h n (by omega))
    unfold gi_Nd gi_N2 gi_N3 at k ⊢
    rw [pk_un g, pk_un g, pk_un g, pk_un g, pk_un g]
    exact k
theorem gj_cF {d m : Nat} {g : Nat → Nat} (hu : us d) (hd : d < 8) (hA : ∀ d, gg_ar G d ≤ 4) (hm : lc d = m) (h8 : 8 ≤ gh_nn H) (hg : ∀ i, i < gg_ar G d → iA (it - 1 - i) = nI (g i) ∧ 8 ≤ g i ∧ g i < gh_nn H) (h : gi_F G us lc rt H fA fL) :
    gi_F G us lc rt (gj_c H rt d m g) (gp_mv fA iA (gh_nf H) (gg_ar G d) it) (upd fL (gh_nf H) (nI (gh_nn H))) := by
  intro q hq
  have hq' : q < gh_nf H + 1 := hq
  by_cases w : q = gh_nf H
  · subst w
    have e1 : gh_fd (gj_c H rt d m g) (gh_nf H) = d := if_pos rfl
    have e2 : ∀ i, gh_fa (gj_c H rt d m g) (gh_nf H) i = g i := fun i => if_pos rfl
    rw [e1]
    refine ⟨hd, hu, fun i hi => ?_, gh_nn H, pk_us, h8, ?_, fun i hi => ?_⟩
    · rw [e2, gx_mvi hi]
      obtain ⟨a, b, c⟩ := hg i hi
      exact ⟨a, b, Nat.lt_of_lt_of_le c (Nat.le_add_right _ _)⟩
    · rw [hm]; exact Nat.le_refl _
    · have e3 : gh_oT (gj_c H rt d m g) (gh_nn H + i) = rt d (gh_nn H + i - gh_nn H) := if_pos (by omega)
      have e4 : gh_oF (gj_c H rt d m g) (gh_nn H + i) = gh_nf H := if_pos (by omega)
      rw [e3, e4, show gh_nn H + i - gh_nn H = i from by omega]
      exact ⟨rfl, rfl⟩
  · have e1 : gh_fd (gj_c H rt d m g) q = gh_fd H q := if_neg w
    have e2 : ∀ i, gh_fa (gj_c H rt d m g) q i = gh_fa H q i := fun i => if_neg w
    obtain ⟨h1, h2, h3, l, h4, h5, h6, h7⟩ := h q (by omega)
    rw [e1]
    refine ⟨h1, h2, fun i hi => ?_, l, ?_, h5, ?_, fun i hi => ?_⟩
    · have ha := hA (gh_fd H q)
      rw [e2, gx_mvo (by omega)]
      obtain ⟨a, b, c⟩ := h3 i hi
      exact ⟨a, b, Nat.lt_of_lt_of_le c (Nat.le_add_right _ _)⟩
    · rw [pk_un w]; exact h4
    · exact Nat.le_trans h6 (Nat.le_add_right _ _)
    · have e : gh_oT (gj_c H rt d m g) (l + i) = gh_oT H (l + i) ∧ gh_oF (gj_c H rt d m g) (l + i) = gh_oF H (l + i) := (gj_c_le H rt d m g).2.2.2 _ (by omega)
      rw [e.1, e.2]
      exact h7 i hi
theorem gj_cN {d m : Nat} {g : Nat → Nat} {rts : Nat → Int32} (hm : ∀ i, i < m → rts (4 * d + i) = nI (rt d i) ∧ gg_T G d (rt d i)) (h : ∀ n, n < gh_nn H → gi_Nd G us H mz nd nS nC nE nP nG nW n) :
    ∀ n, n < gh_nn H + m → gi_Nd G us (gj_c H rt d m g) mz nd (gx_rg nS (gh_nn H) m (fun _ => 0)) (gx_rg nC (gh_nn H) m (fun i => rts (4 * d + i))) (gx_rg nE (gh_nn H) m (fun _ => nI (gh_nf H))) (gx_rg nP (gh_nn H) m (fun _ => 1)) (gx_rg nG (gh_nn H) m (fun _ => 0)) nW n := by
  intro n hlt
  by_cases w : n < gh_nn H
  · have k := gi_Nd_mo (gj_c_le H rt d m g) w (h n w)
    have o : ¬ (gh_nn H ≤ n ∧ n < gh_nn H + m) := by omega
    unfold gi_Nd gi_N2 gi_N3 at k ⊢
    rw [gx_rgo o, gx_rgo o, gx_rgo o, gx_rgo o, gx_rgo o]
    exact k
  · obtain ⟨i, rfl⟩ : ∃ i, n = gh_nn H + i := ⟨n - gh_nn H, by omega⟩
    have hi : i < m := by omega
    obtain ⟨m1, m2⟩ := hm i hi
    have e3 : gh_oT (gj_c H rt d m g) (gh_nn H + i) = rt d i := by
      have : gh_oT (gj_c H rt d m g) (gh_nn H + i) = rt d (gh_nn H + i - gh_nn H) := if_pos (by omega)
      rw [this, show gh_nn H + i - gh_nn H = i from by omega]
    have e4 : gh_oF (gj_c H rt d m g) (gh_nn H + i) = gh_nf H := if_pos (by omega)
    have e1 : gh_fd (gj_c H rt d m g) (gh_nf H) = d := if_pos rfl
    refine Or.inl ⟨gx_rgi hi, fun _ => ?_⟩
    rw [e3, e4, e1, gx_rgi hi, gx_rgi hi]
    exact ⟨m1, rfl, Nat.lt_succ_self _, m2⟩
/-- the innermost mark taken off -/
theorem gj_set {p0 p1 : Int32} {q : Nat} (R : gp_R G us lc rt) (I : gi_I G us lc rt y0 H nd bs ps hh c 1 w2 pr pk it (mz + 1) hi nn nf iS iA iB mN mP mB mH nS nC nE nP nG nW fA fL) (hq : mH mz = nI q) (hq2 : q ≤ 200)
    (hc : (p0 = 2 ∧ c = gc_cV p1 ∧ bs mz = it) ∨ (p0 = 3 ∧ ∃ d, p1 = nI d ∧ c = gc_cE d ∧ d < 8 ∧ us d ∧ it - bs mz < gg_ar G d ∧ ∀ j, j < it - bs mz → iS (it - 1 - j) = 0)) :
    gi_I G us lc rt y0 H nd bs ps hh c 1 w2 pr pk it mz (gp_hx hi q) nn nf iS iA iB mN mP mB mH (upd nS (nd mz) p0) (upd nC (nd mz) p1) (upd nE (nd mz) (nI (it - bs mz))) (upd nP (nd mz) (nI (pr - ps mz))) (upd nG (nd mz) (nI (hi - bs mz))) (gp_mv nW iA (nd mz) (it - bs mz) it) fA fL := by
  obtain ⟨⟨u1, u2, u3, u4, u5, u6, u7, u8, u9, u10, u11⟩, f, nn', m, b⟩ := I
  obtain ⟨a1, a2, a3, a4, a5, a6, a7, ⟨q', a8, a9, a10⟩, a11, a12, a13⟩ := m mz (by omega)
  have hL : gg_L G ≤ 4000 := R.2.1.1.2.1
  have hD : gg_D G ≤ 200 := R.2.1.1.1
  have hA := R.2.1.1.2.2
  obtain rfl : q = q' := ga_inj (hq.symm.trans a8) (by omega) (by omega)
  have gx := gs_hx hi q
  rw [u10] at a10 a11 a12 a13
  have hk4 : it - bs mz < 4 := by
    rcases hc with ⟨_, _, h⟩ | ⟨_, d, _, _, _, _, h, _⟩
    · omega
    · have := hA d; omega
  refine ⟨⟨u1, u2, u3, u4, ?_, u6, u7, u8, by omega, ?_, u11⟩, f, fun n hn => ?_, fun i hi => m i (by omega), b⟩
  · unfold gc_Mx at *; omega
  · unfold gc_Mx at *; omega
  · by_cases g : n = nd mz
    · subst g
      rcases hc with ⟨rfl, rfl, h⟩ | ⟨rfl, d, rfl, rfl, h2, h3, h4, h5⟩
      · refine Or.inr (Or.inr (Or.inl ⟨pk_us, pr - ps mz, hi - bs mz, pk_us, pk_us, by omega, by omega, by omega, ?_⟩))
        rw [pk_us]
        exact gc_shift a13 (by omega) (by omega) (by omega) (fun j hj => absurd hj (by omega)) (fun j hj => absurd hj (by omega))
      · refine Or.inr (Or.inr (Or.inr ⟨pk_us, pr - ps mz, hi - bs mz, d, it - bs mz, pk_us, pk_us, by omega, by omega, by omega, pk_us, h2, h3, pk_us, h4, by omega, ?_⟩))
        refine gc_shift a13 (by omega) (by omega) (by omega) (fun j hj => absurd hj (by omega)) (fun j hj => ?_)
        have e1 := h5 (it - 1 - (bs mz + j)) (by omega)
        rw [show it - 1 - (it - 1 - (bs mz + j)) = bs mz + j from by omega] at e1
        have e2 : gp_mv nW iA (nd mz) (it - bs mz) it (4 * nd mz + (it - bs mz - 1 - (0 + j))) = iA (bs mz + j) := by
          rw [gx_mvi (by omega)]; exact congrArg iA (by omega)
        exact ⟨e1.symm, e2, Or.inl e1⟩
    · have k := nn' n hn
      unfold gi_Nd gi_N2 gi_N3 at k ⊢
      rw [pk_un g, pk_un g, pk_un g, pk_un g, pk_un g]
      rcases k with k | ⟨k1, i, k2, k3⟩ | k | ⟨k1, p, h, d, kk, b1, b2, b3, b4, b5, b6, b7, b8, b9, b10, b11, b12⟩
      · exact Or.inl k
      · refine Or.inr (Or.inl ⟨k1, i, ?_, k3⟩)
        have : i ≠ mz := fun e => g (by rw [← k3, e])
        omega
      · exact Or.inr (Or.inr (Or.inl k))
      · refine Or.inr (Or.inr (Or.inr ⟨k1, p, h, d, kk, b1, b2, b3, b4, b5, b6, b7, b8, b9, b10, b11, ?_⟩))
        have := hA d
        have e : (fun j => gp_mv nW iA (nd mz) (it - bs mz) it (4 * n + (kk - 1 - j))) = (fun j => nW (4 * n + (kk - 1 - j))) := by
          funext j
          exact gx_mvo (by omega)
        rw [e]
        exact b12
end V
end GJ
end
section
section GK
abbrev gk_S : Type := Nat × Nat × Int32 × Int32 × Int32 × Nat × Nat × Nat × Nat × Nat × (Nat → Int32) × (Nat → Int32) × (Nat → Int32) × (Nat → Int32) × (Nat → Int32) × (Nat → Int32) × (Nat → Int32) × (Nat → Int32) × (Nat → Int32) × (Nat → Int32) × (Nat → Int32) × (Nat → Int32) × (Nat → Int32) × (Nat → Int32) × (Nat → Int32)
def gk_T (f_draftSlot f_slotTokens f_slotRoots f_itemArgument f_itemLeft f_itemRight f_itemChoice f_nodeFresh f_nodeBusy f_nodeNumber f_nodePartial f_modeRead f_modeDemand f_modeEnter f_modeGive f_placeNodes f_defs f_maxTokens f_maxPrice f_draftTarget f_draftMade : Int32) (a_slotUsed a_slotArity a_slotLocals a_slotSize a_tokenKind a_tokenValue a_tokenSpan a_roots : Nat → Int32) (G : gc_G) (rs ou : Int32) (s : gk_S) : SX := match s with
  | (pr, pk, md, nA, nB, it, mz, hi, nn, nf, iS, iA, iB, mN, mP, mB, mH, nS, nC, nE, nP, nG, nW, fA, fL) => (f_draftSlot, f_slotTokens, f_slotRoots, f_itemArgument, f_itemLeft, f_itemRight, f_itemChoice, f_nodeFresh, f_nodeBusy, f_nodeNumber, f_nodePartial, f_modeRead, f_modeDemand, f_modeEnter, f_modeGive, f_placeNodes, f_defs, f_maxTokens, nI (gg_D G), f_maxPrice, nI (gg_L G), f_draftTarget, f_draftMade, rs, nI pr, nI pk, ou, md, nA, nB, nI it, nI mz, nI hi, nI nn, nI nf, a_slotUsed, a_slotArity, a_slotLocals, a_slotSize, a_tokenKind, a_tokenValue, a_tokenSpan, a_roots, iS, iA, iB, mN, mP, mB, mH, nS, nC, nE, nP, nG, nW, fA, fL)
def gk_K (G : gc_G) (us : Nat → Prop) (H : gc_H) (md nA nB : Int32) (c : gc_C) (w w2 ww : Nat) : Prop :=
  (md = 0 ∧ (∃ e f, nA = nI e ∧ nB = nI f ∧ c = gc_cR e f ∧ f < gh_nf H ∧ gg_T G (gh_fd H f) e) ∧ w = 0 ∧ w2 = 0 ∧ ww = 2) ∨
  (md = 1 ∧ (∃ n, nA = nI n ∧ n < gh_nn H ∧ c = gi_C H n ∧ (n < 8 → us n ∧ gg_ar G n = 0)) ∧ w = 1 ∧ w2 = 1 ∧ ww = 1) ∨
  (md = 2 ∧ (∃ d, nA = nI d ∧ d < 8 ∧ c = gc_cE d) ∧ w = 1 ∧ w2 = 1 ∧ ww = 0) ∨
  (md = 3 ∧ c = gc_cV nA ∧ w = 1 ∧ w2 = 0 ∧ ww = 1)
def gk_X (G : gc_G) (us : Nat → Prop) (lc : Nat → Nat) (rt : Nat → Nat → Nat) (y0 : gc_Y) (s : gk_S) (x : Nat) : Prop := match s with
  | (pr, pk, md, nA, nB, it, mz, hi, nn, nf, iS, iA, iB, mN, mP, mB, mH, nS, nC, nE, nP, nG, nW, fA, fL) => ∃ H nd bs ps hh c w w2 ww, gk_K G us H md nA nB c w w2 ww ∧ gi_I G us lc rt y0 H nd bs ps hh c w w2 pr pk it mz hi nn nf iS iA iB mN mP mB mH nS nC nE nP nG nW fA fL ∧ x + it ≤ 5 * pr + ww
def gk_Z (G : gc_G) (y0 : gc_Y) (rs ou : Int32) (s : gk_S) : Prop := match s with
  | (pr, pk, md, nA, nB, it, mz, hi, nn, nf, iS, iA, iB, mN, mP, mB, mH, nS, nC, nE, nP, nG, nW, fA, fL) => (ou = 3 ∧ ∃ y', gg_r G y0 y' ∧ gc_LM y') ∨ (¬ ou = 0 ∧ ¬ ou = 3 ∧ ∃ y', gg_r G y0 y' ∧ gv_FN y' ou rs pr pk)
/-- the component's tables of the program -/
def gk_P (G : gc_G) (us : Nat → Prop) (lc : Nat → Nat) (rt : Nat → Nat → Nat) (a_slotUsed a_slotArity a_slotLocals a_tokenKind a_tokenValue a_tokenSpan a_roots : Nat → Int32) : Prop :=
  (∀ p, p < 216 → a_tokenKind p = gg_k G p ∧ a_tokenValue p = gg_v G p) ∧ (∀ d p, gg_T G d p → a_tokenSpan p = nI (gg_s G p) ∧ gg_s G p < 100) ∧ (∀ d, d < 8 → (a_slotUsed d = 0 ↔ ¬ us d)) ∧
  ∀ d, d < 8 → us d → a_slotArity d = nI (gg_ar G d) ∧ a_slotLocals d = nI (lc d) ∧ a_roots (4 * d + 3) = nI (rt d (lc d)) ∧ ∀ i, i < lc d → a_roots (4 * d + i) = nI (rt d i)
section V
variable {f_draftSlot f_slotTokens f_slotRoots f_itemArgument f_itemLeft f_itemRight f_itemChoice f_nodeFresh f_nodeBusy f_nodeNumber f_nodePartial f_modeRead f_modeDemand f_modeEnter f_modeGive f_placeNodes f_defs f_maxTokens f_maxPrice f_draftTarget f_draftMade : Int32} {a_slotUsed a_slotArity a_slotLocals a_slotSize a_tokenKind a_tokenValue a_tokenSpan a_roots : Nat → Int32} {G : gc_G} {us : Nat → Prop} {lc : Nat → Nat} {rt : Nat → Nat → Nat} {y0 : gc_Y} {H H2 : gc_H} {nd bs ps hh : Nat → Nat} {c c2 : gc_C} {w w2 ww : Nat} {md nA nB : Int32} {pr pk it mz hi nn nf : Nat} {iS iA iB mN mP mB mH nS nC nE nP nG nW fA fL : Nat → Int32} {K : SX → Prop} {x e f d k : Nat} {iS2 iA2 iB2 : Nat → Int32}
theorem gk_mk (hk : gk_K G us H md nA nB c w w2 ww) (hi2 : gi_I G us lc rt y0 H nd bs ps hh c w w2 pr pk it mz hi nn nf iS iA iB mN mP mB mH nS nC nE nP nG nW fA fL) (hx : x + it ≤ 5 * pr + ww) : gk_X G us lc rt y0 (pr, pk, md, nA, nB, it, mz, hi, nn, nf, iS, iA, iB, mN, mP, mB, mH, nS, nC, nE, nP, nG, nW, fA, fL) x :=
  Exists.intro H (Exists.intro nd (Exists.intro bs (Exists.intro ps (Exists.intro hh (Exists.intro c (Exists.intro w (Exists.intro w2 (Exists.intro ww ⟨hk, hi2, hx⟩))))))))
theorem gk_lim {rs : Int32} (h : ∃ y', gg_r G y0 y' ∧ gc_LM y') : gk_Z G y0 rs 3 (pr, pk, md, nA, nB, it, mz, hi, nn, nf, iS, iA, iB, mN, mP, mB, mH, nS, nC, nE, nP, nG, nW, fA, fL) := Or.inl ⟨rfl, h⟩
theorem gk_fin {rs ou : Int32} (h1 : ¬ ou = 0) (h2 : ¬ ou = 3) (h : ∃ y', gg_r G y0 y' ∧ gv_FN y' ou rs pr pk) : gk_Z G y0 rs ou (pr, pk, md, nA, nB, it, mz, hi, nn, nf, iS, iA, iB, mN, mP, mB, mH, nS, nC, nE, nP, nG, nW, fA, fL) := Or.inr ⟨h1, h2, h⟩
theorem gk_lR {pr pk : Nat} {it : Nat} (R : gp_R G us lc rt) (h : gv_BT G H y0 (gc_cR e f) iS iA iB it pr pk) (hp : ¬ pr + 1 ≤ gg_L G) : ∃ y', gg_r G y0 y' ∧ gc_LM y' := by
  obtain ⟨m, y, r, f, q⟩ := h
  obtain ⟨y2, r2, l2⟩ := gp_lim R f hp
  exact ⟨y2, R.1.2 _ _ _ r r2, l2⟩
/-- a step that pushes one item -/
theorem gk_up {nn2 : Nat} {nS2 nC2 nE2 nP2 nG2 : Nat → Int32} (R : gp_R G us lc rt) (I : gi_I G us lc rt y0 H nd bs ps hh c 0 0 pr pk it mz hi nn nf iS iA iB mN mP mB mH nS nC nE nP nG nW fA fL) (hl : gc_Le H H2) (F2 : gi_F G us lc rt H2 fA fL) (N2 : ∀ n, n < nn2 → gi_Nd G us H2 mz nd nS2 nC2 nE2 nP2 nG2 nW n)
    (hs : ∀ b, b ≤ it → gc_ST G H2 c iS iA iB b it c2 iS2 iA2 iB2 (it + 1) 1 (it + 1)) (e1 : gh_nf H2 = nf) (e2 : gh_nn H2 = nn2) (e3 : nn ≤ nn2) (e4 : nn2 ≤ nn + 1) (hp : pr + 1 ≤ gg_L G) (hD : it < gg_D G) :
    gi_I G us lc rt y0 H2 nd bs ps (fun i => gp_hx (hh i) (it + 1)) c2 0 0 (pr + 1) (gp_hx pk (it + 1)) (it + 1) mz (gp_hx hi (it + 1)) nn2 nf iS2 iA2 iB2 mN mP mB mH nS2 nC2 nE2 nP2 nG2 nW fA fL := by
  obtain ⟨⟨u1, u2, u3, u4, u5, u6, u7, u8, u9, u10, u11⟩, f, n, m, b⟩ := I
  have hL := R.2.1.1.2.1
  have g1 := gs_hx hi (it + 1)
  have g2 := gs_hx pk (it + 1)
  refine ⟨⟨e1.symm, e2.symm, by omega, hp, g1.2.1, ?_, by omega, by omega, by omega, ?_, ?_⟩, F2, N2, ?_, ?_⟩
  · unfold gc_Mx at *; omega
  · show gp_hx (hh mz) (it + 1) = _; rw [u10]
  · show gp_hx (hh 0) (it + 1) = _; rw [u11]
  · exact gi_adv R.1 hl hs (by omega) (fun i hi => (m i hi).2.2.2.1) (fun i hi => Nat.le_succ_of_le (m i hi).2.2.2.1) (fun i _ => gs_hx (hh i) (it + 1)) (by omega) m
  · exact gv_go R.1 b hl (by omega) (by omega) (hs 0 (Nat.zero_le _)) hp (by omega) g2
end V
end GK
end
section
section GK2
theorem gk_eta {K : SX → Prop} (u : SX) (h : K u) : (match u with | (f_draftSlot, f_slotTokens, f_slotRoots, f_itemArgument, f_itemLeft, f_itemRight, f_itemChoice, f_nodeFresh, f_nodeBusy, f_nodeNumber, f_nodePartial, f_modeRead, f_modeDemand, f_modeEnter, f_modeGive, f_placeNodes, f_defs, f_maxTokens, f_depth, f_maxPrice, f_limit, f_draftTarget, f_draftMade, f_result, f_price, f_peak, f_outcome, f_mode, f_nowA, f_nowB, f_items, f_marks, f_high, f_nodes, f_frames, a_slotUsed, a_slotArity, a_slotLocals, a_slotSize, a_tokenKind, a_tokenValue, a_tokenSpan, a_roots, a_itemSort, a_itemA, a_itemB, a_markNode, a_markPrice, a_markBase, a_markHigh, a_nodeState, a_nodeCode, a_nodeExtra, a_nodePrice, a_nodeHeight, a_nodeHeld, a_frameArgs, a_frameLocals) => K (f_draftSlot, f_slotTokens, f_slotRoots, f_itemArgument, f_itemLeft, f_itemRight, f_itemChoice, f_nodeFresh, f_nodeBusy, f_nodeNumber, f_nodePartial, f_modeRead, f_modeDemand, f_modeEnter, f_modeGive, f_placeNodes, f_defs, f_maxTokens, f_depth, f_maxPrice, f_limit, f_draftTarget, f_draftMade, f_result, f_price, f_peak, f_outcome, f_mode, f_nowA, f_nowB, f_items, f_marks, f_high, f_nodes, f_frames, a_slotUsed, a_slotArity, a_slotLocals, a_slotSize, a_tokenKind, a_tokenValue, a_tokenSpan, a_roots, a_itemSort, a_itemA, a_itemB, a_markNode, a_markPrice, a_markBase, a_markHigh, a_nodeState, a_nodeCode, a_nodeExtra, a_nodePrice, a_nodeHeight, a_nodeHeld, a_frameArgs, a_frameLocals)) := h
section V
variable {f_draftSlot f_slotTokens f_slotRoots f_itemArgument f_itemLeft f_itemRight f_itemChoice f_nodeFresh f_nodeBusy f_nodeNumber f_nodePartial f_modeRead f_modeDemand f_modeEnter f_modeGive f_placeNodes f_defs f_maxTokens f_maxPrice f_draftTarget f_draftMade : Int32} {a_slotUsed a_slotArity a_slotLocals a_slotSize a_tokenKind a_tokenValue a_tokenSpan a_roots : Nat → Int32} {G : gc_G} {us : Nat → Prop} {lc : Nat → Nat} {rt : Nat → Nat → Nat} {y0 : gc_Y} {H H2 : gc_H} {nd bs ps hh : Nat → Nat} {c c2 : gc_C} {w w2 ww : Nat} {md nA nB : Int32} {pr pk it mz hi nn nf : Nat} {iS iA iB mN mP mB mH nS nC nE nP nG nW fA fL : Nat → Int32} {K : SX → Prop} {x e f d k : Nat} {iS2 iA2 iB2 : Nat → Int32}
theorem gk_bfr {ps : Int32 → Prop} {rs ou : Int32} {D L : Nat} (P : gk_P G us lc rt a_slotUsed a_slotArity a_slotLocals a_tokenKind a_tokenValue a_tokenSpan a_roots) (hT : gg_T G d e) (he : e < 216) (hs : gg_s G e ≤ e) (h : ps (nI (gp_bf G e))) : wpX_before ps (f_draftSlot, f_slotTokens, f_slotRoots, f_itemArgument, f_itemLeft, f_itemRight, f_itemChoice, f_nodeFresh, f_nodeBusy, f_nodeNumber, f_nodePartial, f_modeRead, f_modeDemand, f_modeEnter, f_modeGive, f_placeNodes, f_defs, f_maxTokens, nI D, f_maxPrice, nI L, f_draftTarget, f_draftMade, rs, nI pr, nI pk, ou, md, nA, nB, nI it, nI mz, nI hi, nI nn, nI nf, a_slotUsed, a_slotArity, a_slotLocals, a_slotSize, a_tokenKind, a_tokenValue, a_tokenSpan, a_roots, iS, iA, iB, mN, mP, mB, mH, nS, nC, nE, nP, nG, nW, fA, fL) (nI e) := by
  have ce : (nI e).toNatClampNeg = e := nI_clamp (by omega)
  obtain ⟨q1, q2⟩ := P.2.1 d e hT
  refine ⟨ga_in (by omega), ?_⟩
  rw [ce, q1, pk_sub hs]
  exact h
theorem gk_s5 (R : gp_R G us lc rt) (hT : gg_T G d e) (hk : gg_k G e = 5 ∨ gc_op (gg_k G e)) : e < 216 ∧ 1 ≤ e ∧ gg_T G d (e - 1) ∧ gg_s G (e - 1) ≤ e - 1 ∧ gg_T G d (gp_bf G (e - 1)) := by
  obtain ⟨_, _, k3, k4⟩ := R.2.1.2.2 _ _ hT
  refine ⟨k3, ?_⟩
  have hn : ∀ j, j < 5 → ¬ gg_k G e = nI j := by
    intro j hj q
    rcases hk with hk | ⟨i, i1, i2, i3⟩
    · exact ga_ne (a := 5) (b := j) (by omega) (by omega) (by omega) (hk.symm.trans q)
    · exact ga_ne (a := i) (b := j) (by omega) (by omega) (by omega) (i3.symm.trans q)
  have hn2 : ¬ gg_k G e = 11 := by
    intro q
    rcases hk with hk | ⟨i, i1, i2, i3⟩
    · exact absurd (hk.symm.trans q) (by decide)
    · exact ga_ne (a := i) (b := 11) (by omega) (by omega) (by omega) (i3.symm.trans q)
  unfold gp_K at k4
  rcases k4 with k4 | ⟨k4, _⟩ | ⟨k4, _⟩ | ⟨k4, _⟩ | ⟨_, k6⟩ | ⟨k4, _⟩
  · exact absurd k4 (hn 1 (by omega))
  · exact absurd k4 (hn 2 (by omega))
  · exact absurd k4 (hn 3 (by omega))
  · exact absurd k4 (hn 4 (by omega))
  · exact k6
  · exact absurd k4 hn2
theorem gk_s11 (R : gp_R G us lc rt) (hT : gg_T G d e) (hk : gg_k G e = 11) : e < 216 ∧ 1 ≤ e ∧ gg_T G d (e - 1) ∧ gg_s G (e - 1) ≤ e - 1 ∧ gg_T G d (gp_bf G (e - 1)) ∧ gg_s G (gp_bf G (e - 1)) ≤ gp_bf G (e - 1) ∧ gg_T G d (gp_bf G (gp_bf G (e - 1))) := by
  obtain ⟨_, _, k3, k4⟩ := R.2.1.2.2 _ _ hT
  refine ⟨k3, ?_⟩
  unfold gp_K at k4
  rcases k4 with k4 | ⟨k4, _⟩ | ⟨k4, _⟩ | ⟨k4, _⟩ | ⟨k4 | ⟨i, i1, i2, i3⟩, _⟩ | ⟨_, k6⟩
  · exact absurd (hk.symm.trans k4) (by decide)
  · exact absurd (hk.symm.trans k4) (by decide)
  · exact absurd (hk.symm.trans k4) (by decide)
  · exact absurd (hk.symm.trans k4) (by decide)
  · exact absurd (hk.symm.trans k4) (by decide)
  · exact absurd (i3.symm.trans hk) (ga_ne (b := 11) (by omega) (by omega) (by omega))
  · exact k6
theorem gk_rOp (R : gp_R G us lc rt) (P : gk_P G us lc rt a_slotUsed a_slotArity a_slotLocals a_tokenKind a_tokenValue a_tokenSpan a_roots) (I : gi_I G us lc rt y0 H nd bs ps hh (gc_cR e f) 0 0 pr pk it mz hi nn nf iS iA iB mN mP mB mH nS nC nE nP nG nW fA fL) (hf : f < gh_nf H) (hT : gg_T G (gh_fd H f) e) (hk : gc_op (gg_k G e)) (hp : pr + 1 ≤ gg_L G) (hx : x + it ≤ 5 * pr + 2) (hK : ∀ s, gk_X G us lc rt y0 s (x + 1) → K (gk_T f_draftSlot f_slotTokens f_slotRoots f_itemArgument f_itemLeft f_itemRight f_itemChoice f_nodeFresh f_nodeBusy f_nodeNumber f_nodePartial f_modeRead f_modeDemand f_modeEnter f_modeGive f_placeNodes f_defs f_maxTokens f_maxPrice f_draftTarget f_draftMade a_slotUsed a_slotArity a_slotLocals a_slotSize a_tokenKind a_tokenValue a_tokenSpan a_roots G 0 0 s)) (hZ : ∀ s rs ou, gk_Z G y0 rs ou s → K (gk_T f_draftSlot f_slotTokens f_slotRoots f_itemArgument f_itemLeft f_itemRight f_itemChoice f_nodeFresh f_nodeBusy f_nodeNumber f_nodePartial f_modeRead f_modeDemand f_modeEnter f_modeGive f_placeNodes f_defs f_maxTokens f_maxPrice f_draftTarget f_draftMade a_slotUsed a_slotArity a_slotLocals a_slotSize a_tokenKind a_tokenValue a_tokenSpan a_roots G rs ou s)) :
    wpX_readOperator K (f_draftSlot, f_slotTokens, f_slotRoots, f_itemArgument, f_itemLeft, f_itemRight, f_itemChoice, f_nodeFresh, f_nodeBusy, f_nodeNumber, f_nodePartial, f_modeRead, f_modeDemand, f_modeEnter, f_modeGive, f_placeNodes, f_defs, f_maxTokens, nI (gg_D G), f_maxPrice, nI (gg_L G), f_draftTarget, f_draftMade, 0, nI (pr + 1), nI pk, 0, md, nA, nB, nI it, nI mz, nI hi, nI nn, nI nf, a_slotUsed, a_slotArity, a_slotLocals, a_slotSize, a_tokenKind, a_tokenValue, a_tokenSpan, a_roots, iS, iA, iB, mN, mP, mB, mH, nS, nC, nE, nP, nG, nW, fA, fL) (nI e) (nI f) := by
  obtain ⟨⟨u1, u2, u3, u4, u5, u6, u7, u8, u9, u10, u11⟩, hF, hN, hM, hB⟩ := id I
  have hL := R.2.1.1.2.1
  have hDD := R.2.1.1.1
  have h0 := gi_hh hM mz 0 (by omega)
  obtain ⟨s1, s2, s3, s4, s5⟩ := gk_s5 R hT (Or.inr hk)
  have e1 : nI e - 1 = nI (e - 1) := ga_s (by omega)
  have hs : ∀ b, b ≤ it → gc_ST G H (gc_cR e f) iS iA iB b it (gc_cR (gp_bf G (e - 1)) f) (upd iS it 1) (upd iA it (nI e)) (upd iB it (nI f)) (it + 1) 1 (it + 1) := fun b hb => gs_Op R hb hf hT hk (fun j hj => ⟨pk_un (by omega), pk_un (by omega), pk_un (by omega)⟩) pk_us pk_us pk_us
  unfold wpX_readOperator
  by_cases hD : it < gg_D G
  · refine gx_push hD hDD (by omega) (by omega) ?_
    rw [e1]
    refine gk_bfr P s3 (by omega) s4 ?_
    exact hK (pr + 1, gp_hx pk (it + 1), 0, nI (gp_bf G (e - 1)), nI f, it + 1, mz, gp_hx hi (it + 1), nn, nf, upd iS it 1, upd iA it (nI e), upd iB it (nI f), mN, mP, mB, mH, nS, nC, nE, nP, nG, nW, fA, fL)
      (gk_mk (Or.inl ⟨rfl, ⟨_, _, rfl, rfl, rfl, hf, s5⟩, rfl, rfl, rfl⟩) (gk_up R I (gc_Le_rf _) hF hN hs u1.symm u2.symm (by omega) (by omega) hp hD) (by omega))
  · refine gx_pushN hD (by omega) ?_
    rw [e1]
    refine gk_bfr P s3 (by omega) s4 ?_
    exact hZ (pr + 1, pk, 0, nI (gp_bf G (e - 1)), nI f, it, mz, hi, nn, nf, iS, iA, iB, mN, mP, mB, mH, nS, nC, nE, nP, nG, nW, fA, fL) 0 3 (gk_lim (gv_lim R.1 hB (gc_Le_rf _) (by omega) (by omega) (hs 0 (Nat.zero_le _)) (by omega)))
theorem gk_rIf (R : gp_R G us lc rt) (P : gk_P G us lc rt a_slotUsed a_slotArity a_slotLocals a_tokenKind a_tokenValue a_tokenSpan a_roots) (I : gi_I G us lc rt y0 H nd bs ps hh (gc_cR e f) 0 0 pr pk it mz hi nn nf iS iA iB mN mP mB mH nS nC nE nP nG nW fA fL) (hf : f < gh_nf H) (hT : gg_T G (gh_fd H f) e) (hk : gg_k G e = 11) (hp : pr + 1 ≤ gg_L G) (hx : x + it ≤ 5 * pr + 2) (hK : ∀ s, gk_X G us lc rt y0 s (x + 1) → K (gk_T f_draftSlot f_slotTokens f_slotRoots f_itemArgument f_itemLeft f_itemRight f_itemChoice f_nodeFresh f_nodeBusy f_nodeNumber f_nodePartial f_modeRead f_modeDemand f_modeEnter f_modeGive f_placeNodes f_defs f_maxTokens f_maxPrice f_draftTarget f_draftMade a_slotUsed a_slotArity a_slotLocals a_slotSize a_tokenKind a_tokenValue a_tokenSpan a_roots G 0 0 s)) (hZ : ∀ s rs ou, gk_Z G y0 rs ou s → K (gk_T f_draftSlot f_slotTokens f_slotRoots f_itemArgument f_itemLeft f_itemRight f_itemChoice f_nodeFresh f_nodeBusy f_nodeNumber f_nodePartial f_modeRead f_modeDemand f_modeEnter f_modeGive f_placeNodes f_defs f_maxTokens f_maxPrice f_draftTarget f_draftMade a_slotUsed a_slotArity a_slotLocals a_slotSize a_tokenKind a_tokenValue a_tokenSpan a_roots G rs ou s)) :
    wpX_readChoice K (f_draftSlot, f_slotTokens, f_slotRoots, f_itemArgument, f_itemLeft, f_itemRight, f_itemChoice, f_nodeFresh, f_nodeBusy, f_nodeNumber, f_nodePartial, f_modeRead, f_modeDemand, f_modeEnter, f_modeGive, f_placeNodes, f_defs, f_maxTokens, nI (gg_D G), f_maxPrice, nI (gg_L G), f_draftTarget, f_draftMade, 0, nI (pr + 1), nI pk, 0, md, nA, nB, nI it, nI mz, nI hi, nI nn, nI nf, a_slotUsed, a_slotArity, a_slotLocals, a_slotSize, a_tokenKind, a_tokenValue, a_tokenSpan, a_roots, iS, iA, iB, mN, mP, mB, mH, nS, nC, nE, nP, nG, nW, fA, fL) (nI e) (nI f) := by
  obtain ⟨⟨u1, u2, u3, u4, u5, u6, u7, u8, u9, u10, u11⟩, hF, hN, hM, hB⟩ := id I
  have hL := R.2.1.1.2.1
  have hDD := R.2.1.1.1
  have h0 := gi_hh hM mz 0 (by omega)
  obtain ⟨s1, s2, s3, s4, s5, s6, s7⟩ := gk_s11 R hT hk
  obtain ⟨_, _, s8, _⟩ := R.2.1.2.2 _ _ s5
  have e1 : nI e - 1 = nI (e - 1) := ga_s (by omega)
  have hs : ∀ b, b ≤ it → gc_ST G H (gc_cR e f) iS iA iB b it (gc_cR (gp_bf G (gp_bf G (e - 1))) f) (upd iS it 3) (upd iA it (nI e)) (upd iB it (nI f)) (it + 1) 1 (it + 1) := fun b hb => gs_If R hb hf hT hk (fun j hj => ⟨pk_un (by omega), pk_un (by omega), pk_un (by omega)⟩) pk_us pk_us pk_us
  unfold wpX_readChoice
  by_cases hD : it < gg_D G
  · refine gx_push hD hDD (by omega) (by omega) ?_
    rw [e1]
    refine gk_bfr P s3 (by omega) s4 ?_
    refine gk_bfr P s5 s8 s6 ?_
    exact hK (pr + 1, gp_hx pk (it + 1), 0, nI (gp_bf G (gp_bf G (e - 1))), nI f, it + 1, mz, gp_hx hi (it + 1), nn, nf, upd iS it 3, upd iA it (nI e), upd iB it (nI f), mN, mP, mB, mH, nS, nC, nE, nP, nG, nW, fA, fL)
      (gk_mk (Or.inl ⟨rfl, ⟨_, _, rfl, rfl, rfl, hf, s7⟩, rfl, rfl, rfl⟩) (gk_up R I (gc_Le_rf _) hF hN hs u1.symm u2.symm (by omega) (by omega) hp hD) (by omega))
  · refine gx_pushN hD (by omega) ?_
    rw [e1]
    refine gk_bfr P s3 (by omega) s4 ?_
    refine gk_bfr P s5 s8 s6 ?_
    exact hZ (pr + 1, pk, 0, nI (gp_bf G (gp_bf G (e - 1))), nI f, it, mz, hi, nn, nf, iS, iA, iB, mN, mP, mB, mH, nS, nC, nE, nP, nG, nW, fA, fL) 0 3 (gk_lim (gv_lim R.1 hB (gc_Le_rf _) (by omega) (by omega) (hs 0 (Nat.zero_le _)) (by omega)))
/-- pushing the node n of the argument: H2 may hold one node more than H -/
theorem gk_rA2 {n nn2 : Nat} {nS2 nC2 nE2 nP2 nG2 : Nat → Int32} (R : gp_R G us lc rt) (P : gk_P G us lc rt a_slotUsed a_slotArity a_slotLocals a_tokenKind a_tokenValue a_tokenSpan a_roots) (I : gi_I G us lc rt y0 H nd bs ps hh (gc_cR e f) 0 0 pr pk it mz hi nn nf iS iA iB mN mP mB mH nS nC nE nP nG nW fA fL) (hf : f < gh_nf H) (hT : gg_T G (gh_fd H f) e) (hk : gg_k G e = 5) (hp : pr + 1 ≤ gg_L G) (hx : x + it ≤ 5 * pr + 2) (hK : ∀ s, gk_X G us lc rt y0 s (x + 1) → K (gk_T f_draftSlot f_slotTokens f_slotRoots f_itemArgument f_itemLeft f_itemRight f_itemChoice f_nodeFresh f_nodeBusy f_nodeNumber f_nodePartial f_modeRead f_modeDemand f_modeEnter f_modeGive f_placeNodes f_defs f_maxTokens f_maxPrice f_draftTarget f_draftMade a_slotUsed a_slotArity a_slotLocals a_slotSize a_tokenKind a_tokenValue a_tokenSpan a_roots G 0 0 s)) (hZ : ∀ s rs ou, gk_Z G y0 rs ou s → K (gk_T f_draftSlot f_slotTokens f_slotRoots f_itemArgument f_itemLeft f_itemRight f_itemChoice f_nodeFresh f_nodeBusy f_nodeNumber f_nodePartial f_modeRead f_modeDemand f_modeEnter f_modeGive f_placeNodes f_defs f_maxTokens f_maxPrice f_draftTarget f_draftMade a_slotUsed a_slotArity a_slotLocals a_slotSize a_tokenKind a_tokenValue a_tokenSpan a_roots G rs ou s))
    (hl : gc_Le H H2) (F2 : gi_F G us lc rt H2 fA fL) (N2 : ∀ n, n < nn2 → gi_Nd G us H2 mz nd nS2 nC2 nE2 nP2 nG2 nW n) (e1 : gh_nf H2 = nf) (e2 : gh_nn H2 = nn2) (e3 : nn ≤ nn2) (e4 : nn2 ≤ nn + 1) (h8 : 8 ≤ n) (hn : n < nn2)
    (hc : (gg_k G (e - 1) = 2 ∧ ∃ a, gg_v G (e - 1) = nI a ∧ a < gg_ar G (gh_fd H2 f) ∧ n = gh_fa H2 f a) ∨ (¬ gg_k G (e - 1) = 2 ∧ gh_oT H2 n = e - 1 ∧ gh_oF H2 n = f)) :
    wpX_push (fun u => match u with | (f_draftSlot, f_slotTokens, f_slotRoots, f_itemArgument, f_itemLeft, f_itemRight, f_itemChoice, f_nodeFresh, f_nodeBusy, f_nodeNumber, f_nodePartial, f_modeRead, f_modeDemand, f_modeEnter, f_modeGive, f_placeNodes, f_defs, f_maxTokens, f_depth, f_maxPrice, f_limit, f_draftTarget, f_draftMade, f_result, f_price, f_peak, f_outcome, f_mode, f_nowA, f_nowB, f_items, f_marks, f_high, f_nodes, f_frames, a_slotUsed, a_slotArity, a_slotLocals, a_slotSize, a_tokenKind, a_tokenValue, a_tokenSpan, a_roots, a_itemSort, a_itemA, a_itemB, a_markNode, a_markPrice, a_markBase, a_markHigh, a_nodeState, a_nodeCode, a_nodeExtra, a_nodePrice, a_nodeHeight, a_nodeHeld, a_frameArgs, a_frameLocals) => wpX_before (fun r => wpX_goOn (fun u => match u with | (f_draftSlot, f_slotTokens, f_slotRoots, f_itemArgument, f_itemLeft, f_itemRight, f_itemChoice, f_nodeFresh, f_nodeBusy, f_nodeNumber, f_nodePartial, f_modeRead, f_modeDemand, f_modeEnter, f_modeGive, f_placeNodes, f_defs, f_maxTokens, f_depth, f_maxPrice, f_limit, f_draftTarget, f_draftMade, f_result, f_price, f_peak, f_outcome, f_mode, f_nowA, f_nowB, f_items, f_marks, f_high, f_nodes, f_frames, a_slotUsed, a_slotArity, a_slotLocals, a_slotSize, a_tokenKind, a_tokenValue, a_tokenSpan, a_roots, a_itemSort, a_itemA, a_itemB, a_markNode, a_markPrice, a_markBase, a_markHigh, a_nodeState, a_nodeCode, a_nodeExtra, a_nodePrice, a_nodeHeight, a_nodeHeld, a_frameArgs, a_frameLocals) => K (f_draftSlot, f_slotTokens, f_slotRoots, f_itemArgument, f_itemLeft, f_itemRight, f_itemChoice, f_nodeFresh, f_nodeBusy, f_nodeNumber, f_nodePartial, f_modeRead, f_modeDemand, f_modeEnter, f_modeGive, f_placeNodes, f_defs, f_maxTokens, f_depth, f_maxPrice, f_limit, f_draftTarget, f_draftMade, f_result, f_price, f_peak, f_outcome, f_mode, f_nowA, f_nowB, f_items, f_marks, f_high, f_nodes, f_frames, a_slotUsed, a_slotArity, a_slotLocals, a_slotSize, a_tokenKind, a_tokenValue, a_tokenSpan, a_roots, a_itemSort, a_itemA, a_itemB, a_markNode, a_markPrice, a_markBase, a_markHigh, a_nodeState, a_nodeCode, a_nodeExtra, a_nodePrice, a_nodeHeight, a_nodeHeld, a_frameArgs, a_frameLocals)) (f_draftSlot, f_slotTokens, f_slotRoots, f_itemArgument, f_itemLeft, f_itemRight, f_itemChoice, f_nodeFresh, f_nodeBusy, f_nodeNumber, f_nodePartial, f_modeRead, f_modeDemand, f_modeEnter, f_modeGive, f_placeNodes, f_defs, f_maxTokens, f_depth, f_maxPrice, f_limit, f_draftTarget, f_draftMade, f_result, f_price, f_peak, f_outcome, f_mode, f_nowA, f_nowB, f_items, f_marks, f_high, f_nodes, f_frames, a_slotUsed, a_slotArity, a_slotLocals, a_slotSize, a_tokenKind, a_tokenValue, a_tokenSpan, a_roots, a_itemSort, a_itemA, a_itemB, a_markNode, a_markPrice, a_markBase, a_markHigh, a_nodeState, a_nodeCode, a_nodeExtra, a_nodePrice, a_nodeHeight, a_nodeHeld, a_frameArgs, a_frameLocals) 0 r (nI f)) (f_draftSlot, f_slotTokens, f_slotRoots, f_itemArgument, f_itemLeft, f_itemRight, f_itemChoice, f_nodeFresh, f_nodeBusy, f_nodeNumber, f_nodePartial, f_modeRead, f_modeDemand, f_modeEnter, f_modeGive, f_placeNodes, f_defs, f_maxTokens, f_depth, f_maxPrice, f_limit, f_draftTarget, f_draftMade, f_result, f_price, f_peak, f_outcome, f_mode, f_nowA, f_nowB, f_items, f_marks, f_high, f_nodes, f_frames, a_slotUsed, a_slotArity, a_slotLocals, a_slotSize, a_tokenKind, a_tokenValue, a_tokenSpan, a_roots, a_itemSort, a_itemA, a_itemB, a_markNode, a_markPrice, a_markBase, a_markHigh, a_nodeState, a_nodeCode, a_nodeExtra, a_nodePrice, a_nodeHeight, a_nodeHeld, a_frameArgs, a_frameLocals) (nI e - 1)) (f_draftSlot, f_slotTokens, f_slotRoots, f_itemArgument, f_itemLeft, f_itemRight, f_itemChoice, f_nodeFresh, f_nodeBusy, f_nodeNumber, f_nodePartial, f_modeRead, f_modeDemand, f_modeEnter, f_modeGive, f_placeNodes, f_defs, f_maxTokens, nI (gg_D G), f_maxPrice, nI (gg_L G), f_draftTarget, f_draftMade, 0, nI (pr + 1), nI pk, 0, md, nA, nB, nI it, nI mz, nI hi, nI nn2, nI nf, a_slotUsed, a_slotArity, a_slotLocals, a_slotSize, a_tokenKind, a_tokenValue, a_tokenSpan, a_roots, iS, iA, iB, mN, mP, mB, mH, nS2, nC2, nE2, nP2, nG2, nW, fA, fL) 0 (nI n) 0 := by
  obtain ⟨⟨u1, u2, u3, u4, u5, u6, u7, u8, u9, u10, u11⟩, hF, hN, hM, hB⟩ := id I
  have hL := R.2.1.1.2.1
  have hDD := R.2.1.1.1
  have h0 := gi_hh hM mz 0 (by omega)
  obtain ⟨s1, s2, s3, s4, s5⟩ := gk_s5 R hT (Or.inl hk)
  have q1 : nI e - 1 = nI (e - 1) := ga_s (by omega)
  have hfd := (hl.2.2.1 f hf).1
  have hT2 : gg_T G (gh_fd H2 f) e := by rw [hfd]; exact hT
  have hs : ∀ b, b ≤ it → gc_ST G H2 (gc_cR e f) iS iA iB b it (gc_cR (gp_bf G (e - 1)) f) (upd iS it 0) (upd iA it (nI n)) (upd iB it 0) (it + 1) 1 (it + 1) := fun b hb => gs_Ap R hb (by omega) hT2 hk h8 (by omega) hc (fun j hj => ⟨pk_un (by omega), pk_un (by omega), pk_un (by omega)⟩) pk_us pk_us
  by_cases hD : it < gg_D G
  · refine gx_push hD hDD (by omega) (by omega) ?_
    rw [q1]
    refine gk_bfr P s3 (by omega) s4 ?_
    exact hK (pr + 1, gp_hx pk (it + 1), 0, nI (gp_bf G (e - 1)), nI f, it + 1, mz, gp_hx hi (it + 1), nn2, nf, upd iS it 0, upd iA it (nI n), upd iB it 0, mN, mP, mB, mH, nS2, nC2, nE2, nP2, nG2, nW, fA, fL)
      (gk_mk (Or.inl ⟨rfl, ⟨_, _, rfl, rfl, rfl, by omega, by rw [hfd]; exact s5⟩, rfl, rfl, rfl⟩) (gk_up R I hl F2 N2 hs e1 e2 e3 e4 hp hD) (by omega))
  · refine gx_pushN hD (by omega) ?_
    rw [q1]
    refine gk_bfr P s3 (by omega) s4 ?_
    exact hZ (pr + 1, pk, 0, nI (gp_bf G (e - 1)), nI f, it, mz, hi, nn2, nf, iS, iA, iB, mN, mP, mB, mH, nS2, nC2, nE2, nP2, nG2, nW, fA, fL) 0 3 (gk_lim (gv_lim R.1 hB hl (by omega) (by omega) (hs 0 (Nat.zero_le _)) (by omega)))
end V
end GK2
end
section
section GK3
section V
variable {f_draftSlot f_slotTokens f_slotRoots f_itemArgument f_itemLeft f_itemRight f_itemChoice f_nodeFresh f_nodeBusy f_nodeNumber f_nodePartial f_modeRead f_modeDemand f_modeEnter f_modeGive f_placeNodes f_defs f_maxTokens f_maxPrice f_draftTarget f_draftMade : Int32} {a_slotUsed a_slotArity a_slotLocals a_slotSize a_tokenKind a_tokenValue a_tokenSpan a_roots : Nat → Int32} {G : gc_G} {us : Nat → Prop} {lc : Nat → Nat} {rt : Nat → Nat → Nat} {y0 : gc_Y} {H H2 : gc_H} {nd bs ps hh : Nat → Nat} {c c2 : gc_C} {w w2 ww : Nat} {md nA nB : Int32} {pr pk it mz hi nn nf : Nat} {iS iA iB mN mP mB mH nS nC nE nP nG nW fA fL : Nat → Int32} {K : SX → Prop} {x e f d k : Nat} {iS2 iA2 iB2 : Nat → Int32}
theorem gk_s2 (R : gp_R G us lc rt) (hT : gg_T G d e) (hk : gg_k G e = 2) : ∃ a, a < gg_ar G d ∧ gg_v G e = nI a := by
  obtain ⟨_, _, k3, k4⟩ := R.2.1.2.2 _ _ hT
  unfold gp_K at k4
  rcases k4 with k4 | ⟨_, k6⟩ | ⟨k4, _⟩ | ⟨k4, _⟩ | ⟨k4 | ⟨i, i1, i2, i3⟩, _⟩ | ⟨k4, _⟩
  · exact absurd (hk.symm.trans k4) (by decide)
  · exact k6
  · exact absurd (hk.symm.trans k4) (by decide)
  · exact absurd (hk.symm.trans k4) (by decide)
  · exact absurd (hk.symm.trans k4) (by decide)
  · exact absurd (i3.symm.trans hk) (ga_ne (b := 2) (by omega) (by omega) (by omega))
  · exact absurd (hk.symm.trans k4) (by decide)
theorem gk_rAp (R : gp_R G us lc rt) (P : gk_P G us lc rt a_slotUsed a_slotArity a_slotLocals a_tokenKind a_tokenValue a_tokenSpan a_roots) (I : gi_I G us lc rt y0 H nd bs ps hh (gc_cR e f) 0 0 pr pk it mz hi nn nf iS iA iB mN mP mB mH nS nC nE nP nG nW fA fL) (hf : f < gh_nf H) (hT : gg_T G (gh_fd H f) e) (hk : gg_k G e = 5) (hp : pr + 1 ≤ gg_L G) (hx : x + it ≤ 5 * pr + 2) (hK : ∀ s, gk_X G us lc rt y0 s (x + 1) → K (gk_T f_draftSlot f_slotTokens f_slotRoots f_itemArgument f_itemLeft f_itemRight f_itemChoice f_nodeFresh f_nodeBusy f_nodeNumber f_nodePartial f_modeRead f_modeDemand f_modeEnter f_modeGive f_placeNodes f_defs f_maxTokens f_maxPrice f_draftTarget f_draftMade a_slotUsed a_slotArity a_slotLocals a_slotSize a_tokenKind a_tokenValue a_tokenSpan a_roots G 0 0 s)) (hZ : ∀ s rs ou, gk_Z G y0 rs ou s → K (gk_T f_draftSlot f_slotTokens f_slotRoots f_itemArgument f_itemLeft f_itemRight f_itemChoice f_nodeFresh f_nodeBusy f_nodeNumber f_nodePartial f_modeRead f_modeDemand f_modeEnter f_modeGive f_placeNodes f_defs f_maxTokens f_maxPrice f_draftTarget f_draftMade a_slotUsed a_slotArity a_slotLocals a_slotSize a_tokenKind a_tokenValue a_tokenSpan a_roots G rs ou s)) :
    wpX_readApplication K (f_draftSlot, f_slotTokens, f_slotRoots, f_itemArgument, f_itemLeft, f_itemRight, f_itemChoice, f_nodeFresh, f_nodeBusy, f_nodeNumber, f_nodePartial, f_modeRead, f_modeDemand, f_modeEnter, f_modeGive, f_placeNodes, f_defs, f_maxTokens, nI (gg_D G), f_maxPrice, nI (gg_L G), f_draftTarget, f_draftMade, 0, nI (pr + 1), nI pk, 0, md, nA, nB, nI it, nI mz, nI hi, nI nn, nI nf, a_slotUsed, a_slotArity, a_slotLocals, a_slotSize, a_tokenKind, a_tokenValue, a_tokenSpan, a_roots, iS, iA, iB, mN, mP, mB, mH, nS, nC, nE, nP, nG, nW, fA, fL) (nI e) (nI f) := by
  obtain ⟨⟨u1, u2, u3, u4, u5, u6, u7, u8, u9, u10, u11⟩, hF, hN, hM, hB⟩ := id I
  subst u1 u2
  have hL := R.2.1.1.2.1
  obtain ⟨s1, s2, s3, s4, s5⟩ := gk_s5 R hT (Or.inl hk)
  have q1 : nI e - 1 = nI (e - 1) := ga_s (by omega)
  have v1 : vp_in (nI e - 1) 216 := pk_in (e - 1) 216 (by omega) q1
  have c1 : (nI e - 1).toNatClampNeg = e - 1 := pk_cl _ q1
  have ek : a_tokenKind (nI e - 1).toNatClampNeg = gg_k G (e - 1) := by rw [c1]; exact (P.1 _ (by omega)).1
  have ev : a_tokenValue (nI e - 1).toNatClampNeg = gg_v G (e - 1) := by rw [c1]; exact (P.1 _ (by omega)).2
  unfold wpX_readApplication wpX_closure
  refine ⟨v1, ?_⟩
  by_cases g2 : gg_k G (e - 1) = 2
  · obtain ⟨a, a1, a2⟩ := gk_s2 R s3 g2
    have a4 := Nat.lt_of_lt_of_le a1 (R.2.1.1.2.2 _)
    obtain ⟨_, _, f3, _⟩ := hF f hf
    obtain ⟨f4, f5, f6⟩ := f3 a a1
    have x4 : nI f * 4 + a_tokenValue (nI e - 1).toNatClampNeg = nI (4 * f + a) := by rw [ev, a2, ga_x4, nI_add, Nat.mul_comm]
    have v4 : vp_in (nI f * 4 + a_tokenValue (nI e - 1).toNatClampNeg) 520 := pk_in _ 520 (by omega) x4
    have c4 : fA (nI f * 4 + a_tokenValue (nI e - 1).toNatClampNeg).toNatClampNeg = nI (gh_fa H f a) := by rw [pk_cl _ x4, f4]
    refine br_t (ek.trans g2) ⟨v1, v4, ?_⟩
    rw [c4]
    exact gk_rA2 R P I hf hT hk hp hx hK hZ (gc_Le_rf _) hF hN rfl rfl (Nat.le_refl _) (by omega) f5 f6 (Or.inl ⟨g2, a, a2, a1, rfl⟩)
  · refine br_f (by rw [ek]; exact g2) ⟨v1, ?_⟩
    have o1 : gh_oT (gj_n H (e - 1) f) (gh_nn H) = e - 1 := if_pos rfl
    have o2 : gh_oF (gj_n H (e - 1) f) (gh_nn H) = f := if_pos rfl
    by_cases g1 : gg_k G (e - 1) = 1
    · refine br_t (ek.trans g1) ⟨v1, ?_⟩
      rw [ev]
      refine gx_new (by omega) ?_
      exact gk_rA2 R P I hf hT hk hp hx hK hZ (gj_n_le H (e - 1) f) (gj_nF hF) (gj_nN R u3 hN (Or.inr ⟨rfl, g1, rfl⟩)) rfl rfl (by omega) (by omega) u3 (by omega) (Or.inr ⟨g2, o1, o2⟩)
    · refine br_f (by rw [ek]; exact g1) ?_
      refine gx_new (by omega) ?_
      exact gk_rA2 R P I hf hT hk hp hx hK hZ (gj_n_le H (e - 1) f) (gj_nF hF) (gj_nN R u3 hN (Or.inl ⟨rfl, q1, rfl, hf, s3⟩)) rfl rfl (by omega) (by omega) u3 (by omega) (Or.inr ⟨g2, o1, o2⟩)
theorem gk_read (R : gp_R G us lc rt) (P : gk_P G us lc rt a_slotUsed a_slotArity a_slotLocals a_tokenKind a_tokenValue a_tokenSpan a_roots) (I : gi_I G us lc rt y0 H nd bs ps hh (gc_cR e f) 0 0 pr pk it mz hi nn nf iS iA iB mN mP mB mH nS nC nE nP nG nW fA fL) (hf : f < gh_nf H) (hT : gg_T G (gh_fd H f) e) (hx : x + it ≤ 5 * pr + 2) (hK : ∀ s, gk_X G us lc rt y0 s (x + 1) → K (gk_T f_draftSlot f_slotTokens f_slotRoots f_itemArgument f_itemLeft f_itemRight f_itemChoice f_nodeFresh f_nodeBusy f_nodeNumber f_nodePartial f_modeRead f_modeDemand f_modeEnter f_modeGive f_placeNodes f_defs f_maxTokens f_maxPrice f_draftTarget f_draftMade a_slotUsed a_slotArity a_slotLocals a_slotSize a_tokenKind a_tokenValue a_tokenSpan a_roots G 0 0 s)) (hZ : ∀ s rs ou, gk_Z G y0 rs ou s → K (gk_T f_draftSlot f_slotTokens f_slotRoots f_itemArgument f_itemLeft f_itemRight f_itemChoice f_nodeFresh f_nodeBusy f_nodeNumber f_nodePartial f_modeRead f_modeDemand f_modeEnter f_modeGive f_placeNodes f_defs f_maxTokens f_maxPrice f_draftTarget f_draftMade a_slotUsed a_slotArity a_slotLocals a_slotSize a_tokenKind a_tokenValue a_tokenSpan a_roots G rs ou s)) :
    wpX_read K (f_draftSlot, f_slotTokens, f_slotRoots, f_itemArgument, f_itemLeft, f_itemRight, f_itemChoice, f_nodeFresh, f_nodeBusy, f_nodeNumber, f_nodePartial, f_modeRead, f_modeDemand, f_modeEnter, f_modeGive, f_placeNodes, f_defs, f_maxTokens, nI (gg_D G), f_maxPrice, nI (gg_L G), f_draftTarget, f_draftMade, 0, nI pr, nI pk, 0, md, nA, nB, nI it, nI mz, nI hi, nI nn, nI nf, a_slotUsed, a_slotArity, a_slotLocals, a_slotSize, a_tokenKind, a_tokenValue, a_tokenSpan, a_roots, iS, iA, iB, mN, mP, mB, mH, nS, nC, nE, nP, nG, nW, fA, fL) (nI e) (nI f) := by
  obtain ⟨⟨u1, u2, u3, u4, u5, u6, u7, u8, u9, u10, u11⟩, hF, hN, hM, hB⟩ := id I
  have hL := R.2.1.1.2.1
  have hDD := R.2.1.1.1
  have h0 := gi_hh hM mz 0 (by omega)
  have hb1 : ∀ i, i < mz → bs i ≤ it := fun i hi => (hM i hi).2.2.2.1
  unfold wpX_read
  by_cases hp : pr + 1 ≤ gg_L G
  · obtain ⟨k1, k2, k3, k4⟩ := R.2.1.2.2 _ _ hT
    have ve : vp_in (nI e) 216 := ga_in (by omega)
    have ce : (nI e).toNatClampNeg = e := nI_clamp (by omega)
    have ek : a_tokenKind (nI e).toNatClampNeg = gg_k G e := by rw [ce]; exact (P.1 _ k3).1
    have ev : a_tokenValue (nI e).toNatClampNeg = gg_v G e := by rw [ce]; exact (P.1 _ k3).2
    refine gx_pay 1 hp hL ?_
    refine br_f (by decide) ⟨ve, ?_⟩
    unfold gp_K at k4
    rcases k4 with h | ⟨h, a, a1, a2⟩ | ⟨h, a, a1, a2⟩ | ⟨h, a, a1, a2⟩ | ⟨h | h, _⟩ | ⟨h, _⟩
    · refine nm_r ev ⟨ve, nm_r (ek.trans h) (br_f (by decide) (br_f (by decide) (br_t rfl ?_)))⟩
      exact hK (pr + 1, pk, 3, gg_v G e, 0, it, mz, hi, nn, nf, iS, iA, iB, mN, mP, mB, mH, nS, nC, nE, nP, nG, nW, fA, fL) (gk_mk (Or.inr (Or.inr (Or.inr ⟨rfl, rfl, rfl, rfl, rfl⟩))) (gi_flat R.1 I (bm := it) (fun b _ => gp_sNum R h) hb1 hb1 (Nat.le_refl _) hp (by omega) (by omega) (by omega) (by omega)) (by omega))
    · have a4 := Nat.lt_of_lt_of_le a1 (R.2.1.1.2.2 _)
      obtain ⟨_, _, f3, _⟩ := hF f hf
      obtain ⟨f4, f5, f6⟩ := f3 a a1
      have x4 : nI f * 4 + nI a = nI (4 * f + a) := by rw [ga_x4, nI_add, Nat.mul_comm]
      have v4 : vp_in (nI f * 4 + nI a) 520 := pk_in _ 520 (by omega) x4
      have c4 : fA (nI f * 4 + nI a).toNatClampNeg = nI (gh_fa H f a) := by rw [pk_cl _ x4, f4]
      have eC : gi_C H (gh_fa H f a) = gc_cR (gh_oT H (gh_fa H f a)) (gh_oF H (gh_fa H f a)) := if_neg (by omega)
      refine nm_r (ev.trans a2) ⟨ve, nm_r (ek.trans h) (br_f (by decide) (br_f (by decide) (br_f (by decide) (br_t rfl ⟨v4, ?_⟩))))⟩
      rw [c4]
      exact hK (pr + 1, pk, 1, nI (gh_fa H f a), 0, it, mz, hi, nn, nf, iS, iA, iB, mN, mP, mB, mH, nS, nC, nE, nP, nG, nW, fA, fL) (gk_mk (Or.inr (Or.inl ⟨rfl, ⟨gh_fa H f a, rfl, f6, eC.symm, fun z => absurd z (by omega)⟩, rfl, rfl, rfl⟩)) (gi_flat R.1 I (bm := it) (fun b _ => gs_Arg R hf h a2 a1 f6) hb1 hb1 (Nat.le_refl _) hp (by omega) (by omega) (by omega) (by omega)) (by omega))
    · obtain ⟨_, _, _, l, f3, f4, f5, f6⟩ := hF f hf
      obtain ⟨f7, f8⟩ := f6 a a1
      have vf : vp_in (nI f) 130 := ga_in (by omega)
      have cf : fL (nI f).toNatClampNeg + nI a = nI (l + a) := by rw [nI_clamp (by omega), f3, nI_add]
      have eC : gi_C H (l + a) = gc_cR (rt (gh_fd H f) a) f := by
        unfold gi_C
        rw [if_neg (by omega), f7, f8]
      refine nm_r (ev.trans a2) ⟨ve, nm_r (ek.trans h) (br_f (by decide) (br_f (by decide) (br_f (by decide) (br_f (by decide) (br_t rfl ⟨vf, ?_⟩)))))⟩
      rw [cf]
      exact hK (pr + 1, pk, 1, nI (l + a), 0, it, mz, hi, nn, nf, iS, iA, iB, mN, mP, mB, mH, nS, nC, nE, nP, nG, nW, fA, fL) (gk_mk (Or.inr (Or.inl ⟨rfl, ⟨l + a, rfl, by omega, eC.symm, fun z => absurd z (by omega)⟩, rfl, rfl, rfl⟩)) (gi_flat R.1 I (bm := it) (fun b _ => gs_Loc R hf h a2 hT a1) hb1 hb1 (Nat.le_refl _) hp (by omega) (by omega) (by omega) (by omega)) (by omega))
    · refine nm_r (ev.trans a2) ⟨ve, nm_r (ek.trans h) (br_f (by decide) (br_f (by decide) (br_f (by decide) (br_f (by decide) (br_f (by decide) (br_t rfl ?_))))))⟩
      exact hK (pr + 1, pk, 2, nI a, 0, it, mz, hi, nn, nf, iS, iA, iB, mN, mP, mB, mH, nS, nC, nE, nP, nG, nW, fA, fL) (gk_mk (Or.inr (Or.inr (Or.inl ⟨rfl, ⟨a, rfl, a1, rfl⟩, rfl, rfl, rfl⟩))) (gi_flat R.1 I (bm := it) (fun b _ => gs_Glo R h a2 a1) hb1 hb1 (Nat.le_refl _) hp (by omega) (by omega) (by omega) (by omega)) (by omega))
    · refine nm_r ev ⟨ve, nm_r (ek.trans h) (br_f (by decide) (br_f (by decide) (br_f (by decide) (br_f (by decide) (br_f (by decide) (br_f (by decide) (br_t rfl ?_)))))))⟩
      exact gk_rAp R P I hf hT h hp hx (fun s q => gk_eta _ (hK s q)) (fun s rs ou q => gk_eta _ (hZ s rs ou q))
    · obtain ⟨j, j1, j2, j3⟩ := h
      have hj : j = 6 ∨ j = 7 ∨ j = 8 ∨ j = 9 ∨ j = 10 := by omega
      refine nm_r ev ⟨ve, ?_⟩
      rcases hj with rfl | rfl | rfl | rfl | rfl
      · refine nm_r (ek.trans j3) (br_f (by decide) (br_f (by decide) (br_f (by decide) (br_f (by decide) (br_f (by decide) (br_f (by decide) (br_f (by decide) (br_t rfl ?_))))))))
        exact gk_rOp R P I hf hT ⟨6, j1, j2, j3⟩ hp hx (fun s q => gk_eta _ (hK s q)) (fun s rs ou q => gk_eta _ (hZ s rs ou q))
      · refine nm_r (ek.trans j3) (br_f (by decide) (br_f (by decide) (br_f (by decide) (br_f (by decide) (br_f (by decide) (br_f (by decide) (br_f (by decide) (br_f (by decide) (br_t rfl ?_)))))))))
        exact gk_rOp R P I hf hT ⟨7, j1, j2, j3⟩ hp hx (fun s q => gk_eta _ (hK s q)) (fun s rs ou q => gk_eta _ (hZ s rs ou q))
      · refine nm_r (ek.trans j3) (br_f (by decide) (br_f (by decide) (br_f (by decide) (br_f (by decide) (br_f (by decide) (br_f (by decide) (br_f (by decide) (br_f (by decide) (br_f (by decide) (br_t rfl ?_))))))))))
        exact gk_rOp R P I hf hT ⟨8, j1, j2, j3⟩ hp hx (fun s q => gk_eta _ (hK s q)) (fun s rs ou q => gk_eta _ (hZ s rs ou q))
      · refine nm_r (ek.trans j3) (br_f (by decide) (br_f (by decide) (br_f (by decide) (br_f (by decide) (br_f (by decide) (br_f (by decide) (br_f (by decide) (br_f (by decide) (br_f (by decide) (br_f (by decide) (br_t rfl ?_)))))))))))
        exact gk_rOp R P I hf hT ⟨9, j1, j2, j3⟩ hp hx (fun s q => gk_eta _ (hK s q)) (fun s rs ou q => gk_eta _ (hZ s rs ou q))
      · refine nm_r (ek.trans j3) (br_f (by decide) (br_f (by decide) (br_f (by decide) (br_f (by decide) (br_f (by decide) (br_f (by decide) (br_f (by decide) (br_f (by decide) (br_f (by decide) (br_f (by decide) (br_f (by decide) (br_t rfl ?_))))))))))))
        exact gk_rOp R P I hf hT ⟨10, j1, j2, j3⟩ hp hx (fun s q => gk_eta _ (hK s q)) (fun s rs ou q => gk_eta _ (hZ s rs ou q))
    · refine nm_r ev ⟨ve, nm_r (ek.trans h) (br_f (by decide) (br_f (by decide) (br_f (by decide) (br_f (by decide) (br_f (by decide) (br_f (by decide) (br_f (by decide) (br_f (by decide) (br_f (by decide) (br_f (by decide) (br_f (by decide) (br_f (by decide) (br_t rfl ?_)))))))))))))⟩
      exact gk_rIf R P I hf hT h hp hx (fun s q => gk_eta _ (hK s q)) (fun s rs ou q => gk_eta _ (hZ s rs ou q))
  · refine gx_payN 1 hp u4 (by omega) ?_
    refine br_t rfl ?_
    exact hZ (pr, pk, md, nA, nB, it, mz, hi, nn, nf, iS, iA, iB, mN, mP, mB, mH, nS, nC, nE, nP, nG, nW, fA, fL) 0 3 (gk_lim (gk_lR R hB hp))
end V
end GK3
end
section
section GK4
section V
variable {f_draftSlot f_slotTokens f_slotRoots f_itemArgument f_itemLeft f_itemRight f_itemChoice f_nodeFresh f_nodeBusy f_nodeNumber f_nodePartial f_modeRead f_modeDemand f_modeEnter f_modeGive f_placeNodes f_defs f_maxTokens f_maxPrice f_draftTarget f_draftMade : Int32} {a_slotUsed a_slotArity a_slotLocals a_slotSize a_tokenKind a_tokenValue a_tokenSpan a_roots : Nat → Int32} {G : gc_G} {us : Nat → Prop} {lc : Nat → Nat} {rt : Nat → Nat → Nat} {y0 : gc_Y} {H H2 : gc_H} {nd bs ps hh : Nat → Nat} {c c2 : gc_C} {w w2 ww : Nat} {md nA nB : Int32} {pr pk it mz hi nn nf : Nat} {iS iA iB mN mP mB mH nS nC nE nP nG nW fA fL : Nat → Int32} {K : SX → Prop} {x e f d k n : Nat} {iS2 iA2 iB2 : Nat → Int32}
theorem gk_call (R : gp_R G us lc rt) (P : gk_P G us lc rt a_slotUsed a_slotArity a_slotLocals a_tokenKind a_tokenValue a_tokenSpan a_roots) (I : gi_I G us lc rt y0 H nd bs ps hh (gc_cE d) 0 0 pr pk it mz hi nn nf iS iA iB mN mP mB mH nS nC nE nP nG nW fA fL) (hd : d < 8) (hu : us d) (ha : gg_ar G d ≤ it) (hz0 : ∀ j, j < gg_ar G d → iS (it - 1 - j) = 0) (hb : ∀ i, i < mz → bs i + gg_ar G d ≤ it) (hx : x + it ≤ 5 * pr + 2) (hK : ∀ s, gk_X G us lc rt y0 s (x + 1) → K (gk_T f_draftSlot f_slotTokens f_slotRoots f_itemArgument f_itemLeft f_itemRight f_itemChoice f_nodeFresh f_nodeBusy f_nodeNumber f_nodePartial f_modeRead f_modeDemand f_modeEnter f_modeGive f_placeNodes f_defs f_maxTokens f_maxPrice f_draftTarget f_draftMade a_slotUsed a_slotArity a_slotLocals a_slotSize a_tokenKind a_tokenValue a_tokenSpan a_roots G 0 0 s)) (hZ : ∀ s rs ou, gk_Z G y0 rs ou s → K (gk_T f_draftSlot f_slotTokens f_slotRoots f_itemArgument f_itemLeft f_itemRight f_itemChoice f_nodeFresh f_nodeBusy f_nodeNumber f_nodePartial f_modeRead f_modeDemand f_modeEnter f_modeGive f_placeNodes f_defs f_maxTokens f_maxPrice f_draftTarget f_draftMade a_slotUsed a_slotArity a_slotLocals a_slotSize a_tokenKind a_tokenValue a_tokenSpan a_roots G rs ou s)) :
    wpX_call K (f_draftSlot, f_slotTokens, f_slotRoots, f_itemArgument, f_itemLeft, f_itemRight, f_itemChoice, f_nodeFresh, f_nodeBusy, f_nodeNumber, f_nodePartial, f_modeRead, f_modeDemand, f_modeEnter, f_modeGive, f_placeNodes, f_defs, f_maxTokens, nI (gg_D G), f_maxPrice, nI (gg_L G), f_draftTarget, f_draftMade, 0, nI pr, nI pk, 0, md, nA, nB, nI it, nI mz, nI hi, nI nn, nI nf, a_slotUsed, a_slotArity, a_slotLocals, a_slotSize, a_tokenKind, a_tokenValue, a_tokenSpan, a_roots, iS, iA, iB, mN, mP, mB, mH, nS, nC, nE, nP, nG, nW, fA, fL) (nI d) := by
  obtain ⟨⟨u1, u2, u3, u4, u5, u6, u7, u8, u9, u10, u11⟩, hF, hN, hM, hB⟩ := id I
  subst u1 u2
  have hL := R.2.1.1.2.1
  have hDD := R.2.1.1.1
  have hA := R.2.1.1.2.2
  have ha4 := hA d
  have h0 := gi_hh hM mz 0 (by omega)
  obtain ⟨m1, m2, m3⟩ := R.2.1.2.1 d hd hu
  obtain ⟨P1, P2, P3, P4⟩ := id P
  obtain ⟨p1, p2, p3, p4⟩ := P4 d hd hu
  have hg : ∀ i, i < gg_ar G d → iA (it - 1 - i) = nI ((iA (it - 1 - i)).toNatClampNeg) ∧ 8 ≤ (iA (it - 1 - i)).toNatClampNeg ∧ (iA (it - 1 - i)).toNatClampNeg < gh_nn H := by
    intro i hi
    obtain ⟨m, y, r, fcf, q⟩ := hB
    obtain ⟨it', fr, pd, hi', en, ou, gv, vv, ex, fm, jS, jA, jB, jF, aE, aF⟩ := y
    obtain ⟨o, _, h3, h4⟩ := fcf
    obtain ⟨_, n, n1, n2, n3⟩ := gv_0 (gv_top (by omega) h3 h4 (i := i) (by omega)) (hz0 i hi)
    have n4 := n3.1
    rw [n1, nI_clamp (by omega)]
    exact ⟨rfl, n2, n4⟩
  have hl := gj_c_le H rt d (lc d) (fun i => (iA (it - 1 - i)).toNatClampNeg)
  have e1 : gh_fd (gj_c H rt d (lc d) (fun i => (iA (it - 1 - i)).toNatClampNeg)) (gh_nf H) = d := if_pos rfl
  have e2 : ∀ i, gh_fa (gj_c H rt d (lc d) (fun i => (iA (it - 1 - i)).toNatClampNeg)) (gh_nf H) i = (iA (it - 1 - i)).toNatClampNeg := fun i => if_pos rfl
  have b1 : gh_nf (gj_c H rt d (lc d) (fun i => (iA (it - 1 - i)).toNatClampNeg)) = gh_nf H + 1 := rfl
  have b2 : gh_nn (gj_c H rt d (lc d) (fun i => (iA (it - 1 - i)).toNatClampNeg)) = gh_nn H + lc d := rfl
  have hs : ∀ b, b ≤ it - gg_ar G d → gc_ST G (gj_c H rt d (lc d) (fun i => (iA (it - 1 - i)).toNatClampNeg)) (gc_cE d) iS iA iB b it (gc_cR (rt d (lc d)) (gh_nf H)) iS iA iB (it - gg_ar G d) 32 it := fun b hb2 => gv_Cal R hu (by omega) (by omega) e1 (fun i hi => by
    obtain ⟨g1, g2, g3⟩ := hg i hi
    rw [e2]
    exact ⟨hz0 i hi, g1, by omega⟩)
  by_cases hp : pr + 32 ≤ gg_L G
  · refine gx_call hp hL hd m1 (by omega) (by omega) ha ha4 (by omega) p1 p2 ?_
    refine hK (pr + 32, pk, 0, a_roots (4 * d + 3), nI (gh_nf H), it - gg_ar G d, mz, hi, gh_nn H + lc d, gh_nf H + 1, iS, iA, iB, mN, mP, mB, mH, gx_rg nS (gh_nn H) (lc d) (fun _ => 0), gx_rg nC (gh_nn H) (lc d) (fun i => a_roots (4 * d + i)), gx_rg nE (gh_nn H) (lc d) (fun _ => nI (gh_nf H)), gx_rg nP (gh_nn H) (lc d) (fun _ => 1), gx_rg nG (gh_nn H) (lc d) (fun _ => 0), nW, gp_mv fA iA (gh_nf H) (gg_ar G d) it, upd fL (gh_nf H) (nI (gh_nn H)))
      (gk_mk (H := gj_c H rt d (lc d) (fun i => (iA (it - 1 - i)).toNatClampNeg)) (nd := nd) (bs := bs) (ps := ps) (hh := hh) (Or.inl ⟨rfl, ⟨_, _, p3, rfl, rfl, by omega, by rw [e1]; exact m2⟩, rfl, rfl, rfl⟩) ?_ (by omega))
    refine ⟨⟨b1.symm, b2.symm, by omega, hp, by omega, u6, by omega, by omega, by omega, u10, u11⟩, gj_cF hu hd hA rfl u3 hg hF, gj_cN (fun i hi => ⟨p4 i hi, m3 i hi⟩) hN, ?_, ?_⟩
    · refine gi_adv R.1 hl hs (by omega) (fun i hi => by have := hb i hi; omega) (fun i hi => by have := hb i hi; omega) (fun i hi => ?_) (by omega) hM
      have := gi_hh hM (mz - i) i (by omega)
      exact ⟨Nat.le_refl _, by omega, Or.inl rfl⟩
    · exact gv_go R.1 hB hl (by omega) (by omega) (hs 0 (Nat.zero_le _)) hp (by omega) ⟨Nat.le_refl _, by omega, Or.inl rfl⟩
  · refine gx_callN hp u4 ?_
    exact hZ (pr, pk, md, nA, nB, it, mz, hi, gh_nn H, gh_nf H, iS, iA, iB, mN, mP, mB, mH, nS, nC, nE, nP, nG, nW, fA, fL) 0 3 (gk_lim (gv_lim R.1 hB hl (by omega) (by omega) (hs 0 (Nat.zero_le _)) (by omega)))
/-- a mark set on a fresh node -/
theorem gk_mark (R : gp_R G us lc rt) (I : gi_I G us lc rt y0 H nd bs ps hh (gi_C H n) 1 1 pr pk it mz hi nn nf iS iA iB mN mP mB mH nS nC nE nP nG nW fA fL) (hn : n < nn) :
    gi_I G us lc rt y0 H (fun i => if i = mz then n else nd i) (fun i => if i = mz then it else bs i) (fun i => if i = mz then pr else ps i) (fun i => if i = mz + 1 then it else hh i) (gi_C H n) 0 0 pr pk it (mz + 1) it nn nf iS iA iB (upd mN mz (nI n)) (upd mP mz (nI pr)) (upd mB mz (nI it)) (upd mH mz (nI hi)) (upd nS n 1) nC nE nP nG nW fA fL := by
  obtain ⟨⟨u1, u2, u3, u4, u5, u6, u7, u8, u9, u10, u11⟩, hF, hN, hM, hB⟩ := I
  have hDD := R.2.1.1.1
  have h0 := gi_hh hM mz 0 (by omega)
  have eh1 : (fun i => if i = mz + 1 then it else hh i) (mz + 1) = it := if_pos rfl
  have eh : ∀ i, i ≤ mz → (fun i => if i = mz + 1 then it else hh i) i = hh i := fun i hi => if_neg (by omega)
  refine ⟨⟨u1, u2, u3, u4, Nat.le_refl _, u6, u7, u8, by omega, eh1, (eh 0 (by omega)).trans u11⟩, hF, fun q hq => ?_, fun i hlt => ?_, hB⟩
  · by_cases g : q = n
    · subst g
      exact Or.inr (Or.inl ⟨pk_us, mz, by omega, if_pos rfl⟩)
    · have k := hN q hq
      unfold gi_Nd at k ⊢
      rw [pk_un g]
      rcases k with k | ⟨k1, i, k2, k3⟩ | k | k
      · exact Or.inl k
      · exact Or.inr (Or.inl ⟨k1, i, by omega, (if_neg (by omega)).trans k3⟩)
      · exact Or.inr (Or.inr (Or.inl k))
      · exact Or.inr (Or.inr (Or.inr k))
  · by_cases g : i = mz
    · subst g
      have en : (fun j => if j = i then n else nd j) i = n := if_pos rfl
      have eb : (fun j => if j = i then it else bs j) i = it := if_pos rfl
      have ep : (fun j => if j = i then pr else ps j) i = pr := if_pos rfl
      unfold gi_Mk
      rw [en, eb, ep, eh1, eh i (by omega), pk_us, pk_us, pk_us, pk_us]
      refine ⟨rfl, by omega, rfl, Nat.le_refl _, fun j hj => ?_, rfl, by omega, ⟨hi, rfl, by omega, ?_⟩, Nat.le_refl _, by omega, ?_⟩
      · have : (fun j => if j = i then it else bs j) j = bs j := if_neg (by omega)
        rw [this]
        exact (hM j hj).2.2.2.1
      · rw [u10]; exact ⟨u5, Nat.le_refl _, Or.inr rfl⟩
      · rw [Nat.sub_self]
        exact gc_shift (gc_refl (xs := iS) (xa := iA) (xb := iB) R.1 (Nat.le_refl it)) rfl rfl rfl (fun j hj => absurd hj (by omega)) (fun j hj => absurd hj (by omega))
    · have hi' : i < mz := by omega
      obtain ⟨a1, a2, a3, a4, a5, a6, a7, a8, a9⟩ := hM i hi'
      have en : (fun j => if j = mz then n else nd j) i = nd i := if_neg g
      have eb : ∀ j, j < mz → (fun j => if j = mz then it else bs j) j = bs j := fun j hj => if_neg (by omega)
      have ep : (fun j => if j = mz then pr else ps j) i = ps i := if_neg g
      unfold gi_Mk
      rw [en, eb i hi', ep, eh i (by omega), eh (i + 1) (by omega), pk_un g, pk_un g, pk_un g, pk_un g]
      exact ⟨a1, a2, a3, a4, fun j hj => by rw [eb j (by omega)]; exact a5 j hj, a6, by omega, a8, a9⟩
/-- a step that raises the height to hx -/
theorem gk_ris {it2 hx' : Nat} (R : gp_R G us lc rt) (I : gi_I G us lc rt y0 H nd bs ps hh c 1 1 pr pk it mz hi nn nf iS iA iB mN mP mB mH nS nC nE nP nG nW fA fL) (hs : ∀ b, b ≤ it → gc_ST G H c iS iA iB b it c2 iS2 iA2 iB2 it2 k hx') (h1 : it ≤ it2) (h2 : it2 ≤ hx') (hD : hx' ≤ gg_D G) (hp : pr + k ≤ gg_L G) :
    gi_I G us lc rt y0 H nd bs ps (fun i => gp_hx (hh i) hx') c2 1 1 (pr + k) (gp_hx pk hx') it2 mz (gp_hx hi hx') nn nf iS2 iA2 iB2 mN mP mB mH nS nC nE nP nG nW fA fL := by
  obtain ⟨⟨u1, u2, u3, u4, u5, u6, u7, u8, u9, u10, u11⟩, f, n, m, b⟩ := I
  have hL := R.2.1.1.2.1
  have g1 := gs_hx hi hx'
  have g2 := gs_hx pk hx'
  refine ⟨⟨u1, u2, u3, hp, ?_, ?_, by omega, by omega, by omega, ?_, ?_⟩, f, n, ?_, ?_⟩
  · unfold gc_Mx at *; omega
  · unfold gc_Mx at *; omega
  · show gp_hx (hh mz) hx' = _; rw [u10]
  · show gp_hx (hh 0) hx' = _; rw [u11]
  · exact gi_adv R.1 (gc_Le_rf _) hs hD (fun i hi => (m i hi).2.2.2.1) (fun i hi => Nat.le_trans (m i hi).2.2.2.1 h1) (fun i _ => gs_hx (hh i) hx') (by omega) m
  · exact gv_go R.1 b (gc_Le_rf _) (by omega) (by omega) (hs 0 (Nat.zero_le _)) hp hD g2
end V
end GK4
end
section
section GK5
section V
variable {f_draftSlot f_slotTokens f_slotRoots f_itemArgument f_itemLeft f_itemRight f_itemChoice f_nodeFresh f_nodeBusy f_nodeNumber f_nodePartial f_modeRead f_modeDemand f_modeEnter f_modeGive f_placeNodes f_defs f_maxTokens f_maxPrice f_draftTarget f_draftMade : Int32} {a_slotUsed a_slotArity a_slotLocals a_slotSize a_tokenKind a_tokenValue a_tokenSpan a_roots : Nat → Int32} {G : gc_G} {us : Nat → Prop} {lc : Nat → Nat} {rt : Nat → Nat → Nat} {y0 : gc_Y} {H H2 : gc_H} {nd bs ps hh : Nat → Nat} {c c2 : gc_C} {w w2 ww : Nat} {md nA nB : Int32} {pr pk it mz hi nn nf : Nat} {iS iA iB mN mP mB mH nS nC nE nP nG nW fA fL : Nat → Int32} {K : SX → Prop} {x e f d k n : Nat} {iS2 iA2 iB2 : Nat → Int32}
theorem gk_start (R : gp_R G us lc rt) (P : gk_P G us lc rt a_slotUsed a_slotArity a_slotLocals a_tokenKind a_tokenValue a_tokenSpan a_roots) (I : gi_I G us lc rt y0 H nd bs ps hh (gi_C H n) 1 1 pr pk it mz hi nn nf iS iA iB mN mP mB mH nS nC nE nP nG nW fA fL) (hn : n < nn) (h8 : n < 8 → us n ∧ gg_ar G n = 0) (hf : 8 ≤ n → nC n = nI (gh_oT H n) ∧ nE n = nI (gh_oF H n) ∧ gh_oF H n < gh_nf H ∧ gg_T G (gh_fd H (gh_oF H n)) (gh_oT H n)) (hx : x + it ≤ 5 * pr + 1) (hK : ∀ s, gk_X G us lc rt y0 s (x + 1) → K (gk_T f_draftSlot f_slotTokens f_slotRoots f_itemArgument f_itemLeft f_itemRight f_itemChoice f_nodeFresh f_nodeBusy f_nodeNumber f_nodePartial f_modeRead f_modeDemand f_modeEnter f_modeGive f_placeNodes f_defs f_maxTokens f_maxPrice f_draftTarget f_draftMade a_slotUsed a_slotArity a_slotLocals a_slotSize a_tokenKind a_tokenValue a_tokenSpan a_roots G 0 0 s)) (hZ : ∀ s rs ou, gk_Z G y0 rs ou s → K (gk_T f_draftSlot f_slotTokens f_slotRoots f_itemArgument f_itemLeft f_itemRight f_itemChoice f_nodeFresh f_nodeBusy f_nodeNumber f_nodePartial f_modeRead f_modeDemand f_modeEnter f_modeGive f_placeNodes f_defs f_maxTokens f_maxPrice f_draftTarget f_draftMade a_slotUsed a_slotArity a_slotLocals a_slotSize a_tokenKind a_tokenValue a_tokenSpan a_roots G rs ou s)) :
    wpX_startNode K (f_draftSlot, f_slotTokens, f_slotRoots, f_itemArgument, f_itemLeft, f_itemRight, f_itemChoice, f_nodeFresh, f_nodeBusy, f_nodeNumber, f_nodePartial, f_modeRead, f_modeDemand, f_modeEnter, f_modeGive, f_placeNodes, f_defs, f_maxTokens, nI (gg_D G), f_maxPrice, nI (gg_L G), f_draftTarget, f_draftMade, 0, nI pr, nI pk, 0, md, nA, nB, nI it, nI mz, nI hi, nI nn, nI nf, a_slotUsed, a_slotArity, a_slotLocals, a_slotSize, a_tokenKind, a_tokenValue, a_tokenSpan, a_roots, iS, iA, iB, mN, mP, mB, mH, nS, nC, nE, nP, nG, nW, fA, fL) (nI n) := by
  have I2 := gk_mark R I hn
  obtain ⟨⟨u1, u2, u3, u4, u5, u6, u7, u8, u9, u10, u11⟩, hF, hN, hM, hB⟩ := id I
  have hL := R.2.1.1.2.1
  have vn : vp_in (nI n) 4500 := ga_in (by omega)
  have cn : (nI n).toNatClampNeg = n := nI_clamp (by omega)
  have vm : vp_in (nI mz) 4500 := ga_in (by omega)
  have cm : (nI mz).toNatClampNeg = mz := nI_clamp (by omega)
  refine ⟨vn, nm_r (e' := upd nS n 1) (by rw [cn]) ⟨vm, nm_r (e' := upd mN mz (nI n)) (by rw [cm]) ⟨vm, nm_r (e' := upd mP mz (nI pr)) (by rw [cm]) ⟨vm, nm_r (e' := upd mB mz (nI it)) (by rw [cm]) ⟨vm, nm_r (e' := upd mH mz (nI hi)) (by rw [cm]) (nm_r (nI_1 mz) ?_)⟩⟩⟩⟩⟩
  by_cases g : 8 ≤ n
  · obtain ⟨f1, f2, f3, f4⟩ := hf g
    have eC : gi_C H n = gc_cR (gh_oT H n) (gh_oF H n) := if_neg (by omega)
    refine br_t (nI_le (a := 8) g (by omega)) ⟨vn, vn, ?_⟩
    rw [cn, f1, f2]
    exact hK (pr, pk, 0, nI (gh_oT H n), nI (gh_oF H n), it, mz + 1, it, nn, nf, iS, iA, iB, upd mN mz (nI n), upd mP mz (nI pr), upd mB mz (nI it), upd mH mz (nI hi), upd nS n 1, nC, nE, nP, nG, nW, fA, fL)
      (gk_mk (Or.inl ⟨rfl, ⟨_, _, rfl, rfl, eC, f3, f4⟩, rfl, rfl, rfl⟩) I2 (by omega))
  · obtain ⟨g1, g2⟩ := h8 (by omega)
    have eC : gi_C H n = gc_cE n := if_pos (by omega)
    rw [eC] at I2
    refine br_f (nI_ge (b := 8) (by omega) (by omega)) ?_
    refine gk_call R P I2 (by omega) g1 (by omega) (fun j hj => absurd hj (by omega)) (fun i hlt => ?_) (by omega) (fun s q => gk_eta _ (hK s q)) (fun s rs ou q => gk_eta _ (hZ s rs ou q))
    rw [g2]
    have := (I2.2.2.2.1 i hlt).2.2.2.1
    exact this
/-- the path of a settled node, from any height -/
theorem gk_memo {v : Int32} {p h : Nat} (s : gc_ST G H (gi_C H n) gi_z gi_z gi_z 0 0 (gc_cV v) gi_z gi_z gi_z 0 p h) : ∀ b, b ≤ it → gc_ST G H (gi_C H n) iS iA iB b it (gc_cV v) iS iA iB it p (it + h) := by
  intro b hb
  have s2 : gc_ST G H (gi_C H n) iS iA iB it it (gc_cV v) iS iA iB it p (it + h) := gc_shift s (by omega) (by omega) (by omega) (fun j hj => absurd hj (by omega)) (fun j hj => absurd hj (by omega))
  exact gc_frame s2 hb (Nat.le_refl _) (by omega) (fun j _ _ => gc_Eq_rf)
theorem gk_memo3 {p h kk : Nat} (hkh : kk ≤ h) (s : gc_ST G H (gi_C H n) gi_z gi_z gi_z 0 0 (gc_cE d) gi_z (fun j => nW (4 * n + (kk - 1 - j))) gi_z kk p h) :
    ∀ b, b ≤ it → gc_ST G H (gi_C H n) iS iA iB b it (gc_cE d) (gx_rg iS it kk (fun _ => 0)) (gx_rg iA it kk (fun j => nW (4 * n + (kk - 1 - j)))) (gx_rg iB it kk (fun _ => 0)) (it + kk) p (it + h) := by
  intro b hb
  have s2 : gc_ST G H (gi_C H n) iS iA iB it it (gc_cE d) (gx_rg iS it kk (fun _ => 0)) (gx_rg iA it kk (fun j => nW (4 * n + (kk - 1 - j)))) (gx_rg iB it kk (fun _ => 0)) (it + kk) p (it + h) := by
    refine gc_shift s (by omega) (by omega) (by omega) (fun j hj => absurd hj (by omega)) (fun j hj => ?_)
    rw [gx_rgi (by omega), gx_rgi (by omega), gx_rgi (by omega), Nat.zero_add]
    exact gc_Eq_rf
  exact gc_frame s2 hb (by omega) (by omega) (fun j _ h2 => by
    rw [gx_rgo (by omega), gx_rgo (by omega), gx_rgo (by omega)]
    exact gc_Eq_rf)
theorem gk_rep2 (R : gp_R G us lc rt) (I : gi_I G us lc rt y0 H nd bs ps hh (gi_C H n) 1 1 pr pk it mz hi nn nf iS iA iB mN mP mB mH nS nC nE nP nG nW fA fL) (hn : n < nn) (hS : nS n = 2) (hN2 : gi_N2 G H nC nP nG n) (hx : x + it ≤ 5 * pr + 1) (hK : ∀ s, gk_X G us lc rt y0 s (x + 1) → K (gk_T f_draftSlot f_slotTokens f_slotRoots f_itemArgument f_itemLeft f_itemRight f_itemChoice f_nodeFresh f_nodeBusy f_nodeNumber f_nodePartial f_modeRead f_modeDemand f_modeEnter f_modeGive f_placeNodes f_defs f_maxTokens f_maxPrice f_draftTarget f_draftMade a_slotUsed a_slotArity a_slotLocals a_slotSize a_tokenKind a_tokenValue a_tokenSpan a_roots G 0 0 s)) (hZ : ∀ s rs ou, gk_Z G y0 rs ou s → K (gk_T f_draftSlot f_slotTokens f_slotRoots f_itemArgument f_itemLeft f_itemRight f_itemChoice f_nodeFresh f_nodeBusy f_nodeNumber f_nodePartial f_modeRead f_modeDemand f_modeEnter f_modeGive f_placeNodes f_defs f_maxTokens f_maxPrice f_draftTarget f_draftMade a_slotUsed a_slotArity a_slotLocals a_slotSize a_tokenKind a_tokenValue a_tokenSpan a_roots G rs ou s)) :
    wpX_replay K (f_draftSlot, f_slotTokens, f_slotRoots, f_itemArgument, f_itemLeft, f_itemRight, f_itemChoice, f_nodeFresh, f_nodeBusy, f_nodeNumber, f_nodePartial, f_modeRead, f_modeDemand, f_modeEnter, f_modeGive, f_placeNodes, f_defs, f_maxTokens, nI (gg_D G), f_maxPrice, nI (gg_L G), f_draftTarget, f_draftMade, 0, nI pr, nI pk, 0, md, nA, nB, nI it, nI mz, nI hi, nI nn, nI nf, a_slotUsed, a_slotArity, a_slotLocals, a_slotSize, a_tokenKind, a_tokenValue, a_tokenSpan, a_roots, iS, iA, iB, mN, mP, mB, mH, nS, nC, nE, nP, nG, nW, fA, fL) (nI n) := by
  obtain ⟨⟨u1, u2, u3, u4, u5, u6, u7, u8, u9, u10, u11⟩, hF, hN, hM, hB⟩ := id I
  have hL := R.2.1.1.2.1
  have hDD := R.2.1.1.1
  have h0 := gi_hh hM mz 0 (by omega)
  obtain ⟨p, h, p1, p2, p3, p4, p5, p6⟩ := hN2
  have hs := gk_memo (iS := iS) (iA := iA) (iB := iB) (it := it) p6
  have vn : vp_in (nI n) 4500 := ga_in (by omega)
  have cn : (nI n).toNatClampNeg = n := nI_clamp (by omega)
  unfold wpX_replay
  refine ⟨vn, ?_⟩
  rw [cn, p1]
  by_cases hp : pr + p ≤ gg_L G
  · refine gx_pay p hp hL ?_
    refine br_f (by decide) ⟨vn, ?_⟩
    rw [p2, nI_add]
    by_cases hD : it + h ≤ gg_D G
    · refine gx_rea (it + h) hD hDD (by omega) (by omega) ?_
      refine br_f (by decide) ⟨vn, br_t hS ⟨vn, ?_⟩⟩
      exact hK (pr + p, gp_hx pk (it + h), 3, nC n, 0, it, mz, gp_hx hi (it + h), nn, nf, iS, iA, iB, mN, mP, mB, mH, nS, nC, nE, nP, nG, nW, fA, fL)
        (gk_mk (Or.inr (Or.inr (Or.inr ⟨rfl, rfl, rfl, rfl, rfl⟩))) (gi_w (gk_ris R I hs (Nat.le_refl _) (by omega) hD hp) (Nat.le_refl _) (Nat.zero_le _)) (by omega))
    · refine gx_reaN (it + h) hD (by omega) ?_
      refine br_t rfl ?_
      exact hZ (pr + p, pk, md, nA, nB, it, mz, hi, nn, nf, iS, iA, iB, mN, mP, mB, mH, nS, nC, nE, nP, nG, nW, fA, fL) 0 3 (gk_lim (gv_lim R.1 hB (gc_Le_rf _) (by omega) (by omega) (hs 0 (Nat.zero_le _)) (by omega)))
  · refine gx_payN p hp u4 (by omega) ?_
    refine br_t rfl ?_
    exact hZ (pr, pk, md, nA, nB, it, mz, hi, nn, nf, iS, iA, iB, mN, mP, mB, mH, nS, nC, nE, nP, nG, nW, fA, fL) 0 3 (gk_lim (gv_lim R.1 hB (gc_Le_rf _) (by omega) (by omega) (hs 0 (Nat.zero_le _)) (by omega)))
theorem gk_rep3 (R : gp_R G us lc rt) (I : gi_I G us lc rt y0 H nd bs ps hh (gi_C H n) 1 1 pr pk it mz hi nn nf iS iA iB mN mP mB mH nS nC nE nP nG nW fA fL) (hn : n < nn) (hS : nS n = 3) (hN3 : gi_N3 G us H nC nE nP nG nW n) (hx : x + it ≤ 5 * pr + 1) (hK : ∀ s, gk_X G us lc rt y0 s (x + 1) → K (gk_T f_draftSlot f_slotTokens f_slotRoots f_itemArgument f_itemLeft f_itemRight f_itemChoice f_nodeFresh f_nodeBusy f_nodeNumber f_nodePartial f_modeRead f_modeDemand f_modeEnter f_modeGive f_placeNodes f_defs f_maxTokens f_maxPrice f_draftTarget f_draftMade a_slotUsed a_slotArity a_slotLocals a_slotSize a_tokenKind a_tokenValue a_tokenSpan a_roots G 0 0 s)) (hZ : ∀ s rs ou, gk_Z G y0 rs ou s → K (gk_T f_draftSlot f_slotTokens f_slotRoots f_itemArgument f_itemLeft f_itemRight f_itemChoice f_nodeFresh f_nodeBusy f_nodeNumber f_nodePartial f_modeRead f_modeDemand f_modeEnter f_modeGive f_placeNodes f_defs f_maxTokens f_maxPrice f_draftTarget f_draftMade a_slotUsed a_slotArity a_slotLocals a_slotSize a_tokenKind a_tokenValue a_tokenSpan a_roots G rs ou s)) :
    wpX_replay K (f_draftSlot, f_slotTokens, f_slotRoots, f_itemArgument, f_itemLeft, f_itemRight, f_itemChoice, f_nodeFresh, f_nodeBusy, f_nodeNumber, f_nodePartial, f_modeRead, f_modeDemand, f_modeEnter, f_modeGive, f_placeNodes, f_defs, f_maxTokens, nI (gg_D G), f_maxPrice, nI (gg_L G), f_draftTarget, f_draftMade, 0, nI pr, nI pk, 0, md, nA, nB, nI it, nI mz, nI hi, nI nn, nI nf, a_slotUsed, a_slotArity, a_slotLocals, a_slotSize, a_tokenKind, a_tokenValue, a_tokenSpan, a_roots, iS, iA, iB, mN, mP, mB, mH, nS, nC, nE, nP, nG, nW, fA, fL) (nI n) := by
  obtain ⟨⟨u1, u2, u3, u4, u5, u6, u7, u8, u9, u10, u11⟩, hF, hN, hM, hB⟩ := id I
  have hL := R.2.1.1.2.1
  have hDD := R.2.1.1.1
  have h0 := gi_hh hM mz 0 (by omega)
  obtain ⟨p, h, d, kk, p1, p2, p3, p4, p5, p6, p7, p8, p9, p10, p11, p12⟩ := hN3
  have ha4 := R.2.1.1.2.2 d
  have hs := gk_memo3 (iS := iS) (iA := iA) (iB := iB) (it := it) p11 p12
  have vn : vp_in (nI n) 4500 := ga_in (by omega)
  have cn : (nI n).toNatClampNeg = n := nI_clamp (by omega)
  unfold wpX_replay
  refine ⟨vn, ?_⟩
  rw [cn, p1]
  by_cases hp : pr + p ≤ gg_L G
  · refine gx_pay p hp hL ?_
    refine br_f (by decide) ⟨vn, ?_⟩
    rw [p2, nI_add]
    by_cases hD : it + h ≤ gg_D G
    · have g1 := gs_hx hi (it + h)
      have g2 := gs_hx pk (it + h)
      refine gx_rea (it + h) hD hDD (by omega) (by omega) ?_
      refine br_f (by decide) ⟨vn, br_f (by rw [hS]; decide) ⟨vn, nm_r (e' := nI kk - 1) (by rw [p9]) ⟨kk + 1, ?_⟩⟩⟩
      have key := gx_rep65 (f_draftSlot := f_draftSlot) (f_slotTokens := f_slotTokens) (f_slotRoots := f_slotRoots) (f_itemArgument := f_itemArgument) (f_itemLeft := f_itemLeft) (f_itemRight := f_itemRight) (f_itemChoice := f_itemChoice) (f_nodeFresh := f_nodeFresh) (f_nodeBusy := f_nodeBusy) (f_nodeNumber := f_nodeNumber) (f_nodePartial := f_nodePartial) (f_modeRead := f_modeRead) (f_modeDemand := f_modeDemand) (f_modeEnter := f_modeEnter) (f_modeGive := f_modeGive) (f_placeNodes := f_placeNodes) (f_defs := f_defs) (f_maxTokens := f_maxTokens) (f_maxPrice := f_maxPrice) (f_draftTarget := f_draftTarget) (f_draftMade := f_draftMade) (a_slotUsed := a_slotUsed) (a_slotArity := a_slotArity) (a_slotLocals := a_slotLocals) (a_slotSize := a_slotSize) (a_tokenKind := a_tokenKind) (a_tokenValue := a_tokenValue) (a_tokenSpan := a_tokenSpan) (a_roots := a_roots) (it := it) (mz := mz) (nn := nn) (nf := nf) (iS := iS) (iA := iA) (iB := iB) (mN := mN) (mP := mP) (mB := mB) (mH := mH) (nS := nS) (nC := nC) (nE := nE) (nP := nP) (nG := nG) (nW := nW) (fA := fA) (fL := fL) (md := md) (nA := nA) (nB := nB) (D := gg_D G) (L := gg_L G) (pr := pr + p) (pk := gp_hx pk (it + h)) (hi := gp_hx hi (it + h)) (rs := 0) (ou := 0) (ps := K) (by omega) (show kk ≤ 4 by omega) hDD (by unfold gc_Mx at g1; omega) (by unfold gc_Mx at g2; omega) (by unfold gc_Mx at g1; omega) (by unfold gc_Mx at g2; omega) (by omega)
        (hK (pr + p, gp_hx pk (it + h), 2, nC n, 0, it + kk, mz, gp_hx hi (it + h), nn, nf, gx_rg iS it kk (fun _ => 0), gx_rg iA it kk (fun j => nW (4 * n + (kk - 1 - j))), gx_rg iB it kk (fun _ => 0), mN, mP, mB, mH, nS, nC, nE, nP, nG, nW, fA, fL)
          (gk_mk (Or.inr (Or.inr (Or.inl ⟨rfl, ⟨d, p6, p7, rfl⟩, rfl, rfl, rfl⟩))) (gk_ris R I hs (by omega) (by omega) hD hp) (by omega))) kk 0 (nI kk - 1) (by omega) rfl
      rw [gx_rg0, gx_rg0, gx_rg0] at key
      exact key
    · refine gx_reaN (it + h) hD (by omega) ?_
      refine br_t rfl ?_
      exact hZ (pr + p, pk, md, nA, nB, it, mz, hi, nn, nf, iS, iA, iB, mN, mP, mB, mH, nS, nC, nE, nP, nG, nW, fA, fL) 0 3 (gk_lim (gv_lim R.1 hB (gc_Le_rf _) (by omega) (by omega) (hs 0 (Nat.zero_le _)) (by omega)))
  · refine gx_payN p hp u4 (by omega) ?_
    refine br_t rfl ?_
    exact hZ (pr, pk, md, nA, nB, it, mz, hi, nn, nf, iS, iA, iB, mN, mP, mB, mH, nS, nC, nE, nP, nG, nW, fA, fL) 0 3 (gk_lim (gv_lim R.1 hB (gc_Le_rf _) (by omega) (by omega) (hs 0 (Nat.zero_le _)) (by omega)))
theorem gk_demand (R : gp_R G us lc rt) (P : gk_P G us lc rt a_slotUsed a_slotArity a_slotLocals a_tokenKind a_tokenValue a_tokenSpan a_roots) (I : gi_I G us lc rt y0 H nd bs ps hh (gi_C H n) 1 1 pr pk it mz hi nn nf iS iA iB mN mP mB mH nS nC nE nP nG nW fA fL) (hn : n < nn) (h8 : n < 8 → us n ∧ gg_ar G n = 0) (hx : x + it ≤ 5 * pr + 1) (hK : ∀ s, gk_X G us lc rt y0 s (x + 1) → K (gk_T f_draftSlot f_slotTokens f_slotRoots f_itemArgument f_itemLeft f_itemRight f_itemChoice f_nodeFresh f_nodeBusy f_nodeNumber f_nodePartial f_modeRead f_modeDemand f_modeEnter f_modeGive f_placeNodes f_defs f_maxTokens f_maxPrice f_draftTarget f_draftMade a_slotUsed a_slotArity a_slotLocals a_slotSize a_tokenKind a_tokenValue a_tokenSpan a_roots G 0 0 s)) (hZ : ∀ s rs ou, gk_Z G y0 rs ou s → K (gk_T f_draftSlot f_slotTokens f_slotRoots f_itemArgument f_itemLeft f_itemRight f_itemChoice f_nodeFresh f_nodeBusy f_nodeNumber f_nodePartial f_modeRead f_modeDemand f_modeEnter f_modeGive f_placeNodes f_defs f_maxTokens f_maxPrice f_draftTarget f_draftMade a_slotUsed a_slotArity a_slotLocals a_slotSize a_tokenKind a_tokenValue a_tokenSpan a_roots G rs ou s)) :
    wpX_demand K (f_draftSlot, f_slotTokens, f_slotRoots, f_itemArgument, f_itemLeft, f_itemRight, f_itemChoice, f_nodeFresh, f_nodeBusy, f_nodeNumber, f_nodePartial, f_modeRead, f_modeDemand, f_modeEnter, f_modeGive, f_placeNodes, f_defs, f_maxTokens, nI (gg_D G), f_maxPrice, nI (gg_L G), f_draftTarget, f_draftMade, 0, nI pr, nI pk, 0, md, nA, nB, nI it, nI mz, nI hi, nI nn, nI nf, a_slotUsed, a_slotArity, a_slotLocals, a_slotSize, a_tokenKind, a_tokenValue, a_tokenSpan, a_roots, iS, iA, iB, mN, mP, mB, mH, nS, nC, nE, nP, nG, nW, fA, fL) (nI n) := by
  obtain ⟨⟨u1, u2, u3, u4, u5, u6, u7, u8, u9, u10, u11⟩, hF, hN, hM, hB⟩ := id I
  have hL := R.2.1.1.2.1
  have vn : vp_in (nI n) 4500 := ga_in (by omega)
  have cn : (nI n).toNatClampNeg = n := nI_clamp (by omega)
  refine ⟨vn, ?_⟩
  rcases hN n hn with ⟨h1, h2⟩ | ⟨h1, i, h2, h3⟩ | ⟨h1, h2⟩ | ⟨h1, h2⟩
  · refine nm_r (e' := 0) (by rw [cn, h1]) (br_f (by decide) (br_t rfl ?_))
    exact gk_start R P I hn h8 h2 hx (fun s q => gk_eta _ (hK s q)) (fun s rs ou q => gk_eta _ (hZ s rs ou q))
  · refine nm_r (e' := 1) (by rw [cn, h1]) (br_t rfl ?_)
    obtain ⟨a1, a2, a3, a4, a5, a6, a7, a8, a9, a10, a11⟩ := hM i h2
    rw [h3] at a11
    exact hZ (pr, pk, md, nA, nB, it, mz, hi, nn, nf, iS, iA, iB, mN, mP, mB, mH, nS, nC, nE, nP, nG, nW, fA, fL) 0 3 (gk_lim (gv_bsy R.1 hB (gc_shift (ys := iS) (ya := iA) (yb := iB) (ys2 := iS) (ya2 := iA) (yb2 := iB) a11 rfl rfl rfl (fun j hj => absurd hj (by omega)) (fun j hj => gc_Eq_rf)) (by omega)))
  · refine nm_r (e' := 2) (by rw [cn, h1]) (br_f (by decide) (br_f (by decide) ?_))
    exact gk_rep2 R I hn h1 h2 hx (fun s q => gk_eta _ (hK s q)) (fun s rs ou q => gk_eta _ (hZ s rs ou q))
  · refine nm_r (e' := 3) (by rw [cn, h1]) (br_f (by decide) (br_f (by decide) ?_))
    exact gk_rep3 R I hn h1 h2 hx (fun s q => gk_eta _ (hK s q)) (fun s rs ou q => gk_eta _ (hZ s rs ou q))
end V
end GK5
end
section
section GK6
section V
variable {f_draftSlot f_slotTokens f_slotRoots f_itemArgument f_itemLeft f_itemRight f_itemChoice f_nodeFresh f_nodeBusy f_nodeNumber f_nodePartial f_modeRead f_modeDemand f_modeEnter f_modeGive f_placeNodes f_defs f_maxTokens f_maxPrice f_draftTarget f_draftMade : Int32} {a_slotUsed a_slotArity a_slotLocals a_slotSize a_tokenKind a_tokenValue a_tokenSpan a_roots : Nat → Int32} {G : gc_G} {us : Nat → Prop} {lc : Nat → Nat} {rt : Nat → Nat → Nat} {y0 : gc_Y} {H H2 : gc_H} {nd bs ps hh : Nat → Nat} {c c2 : gc_C} {w w2 ww : Nat} {md nA nB : Int32} {pr pk it mz hi nn nf : Nat} {iS iA iB mN mP mB mH nS nC nE nP nG nW fA fL : Nat → Int32} {K : SX → Prop} {x e f d k n : Nat} {iS2 iA2 iB2 : Nat → Int32}
theorem gk_e61 (R : gp_R G us lc rt) (hd : d < 8) (hu : us d) (ha : gg_ar G d ≤ it) (hz0 : ∀ j, j < gg_ar G d → iS (it - 1 - j) = 0)
    (hE : ∀ (mz hi : Nat) (nS nC nE nP nG nW : Nat → Int32), gi_I G us lc rt y0 H nd bs ps hh (gc_cE d) 1 1 pr pk it mz hi nn nf iS iA iB mN mP mB mH nS nC nE nP nG nW fA fL → (∀ i, i < mz → bs i + gg_ar G d ≤ it) → wX_enter_94 K (nI d) f_draftSlot f_slotTokens f_slotRoots f_itemArgument f_itemLeft f_itemRight f_itemChoice f_nodeFresh f_nodeBusy f_nodeNumber f_nodePartial f_modeRead f_modeDemand f_modeEnter f_modeGive f_placeNodes f_defs f_maxTokens (nI (gg_D G)) f_maxPrice (nI (gg_L G)) f_draftTarget f_draftMade 0 (nI pr) (nI pk) 0 md nA nB (nI it) (nI mz) (nI hi) (nI nn) (nI nf) a_slotUsed a_slotArity a_slotLocals a_slotSize a_tokenKind a_tokenValue a_tokenSpan a_roots iS iA iB mN mP mB mH nS nC nE nP nG nW fA fL) :
    ∀ (mz hi : Nat) (nS nC nE nP nG nW : Nat → Int32) (x4 : Int32), x4 = nI mz - 1 → gi_I G us lc rt y0 H nd bs ps hh (gc_cE d) 1 1 pr pk it mz hi nn nf iS iA iB mN mP mB mH nS nC nE nP nG nW fA fL → wX_enter_61 K (nI d) (nI (gg_ar G d)) (mz + 1) x4 f_draftSlot f_slotTokens f_slotRoots f_itemArgument f_itemLeft f_itemRight f_itemChoice f_nodeFresh f_nodeBusy f_nodeNumber f_nodePartial f_modeRead f_modeDemand f_modeEnter f_modeGive f_placeNodes f_defs f_maxTokens (nI (gg_D G)) f_maxPrice (nI (gg_L G)) f_draftTarget f_draftMade 0 (nI pr) (nI pk) 0 md nA nB (nI it) (nI mz) (nI hi) (nI nn) (nI nf) a_slotUsed a_slotArity a_slotLocals a_slotSize a_tokenKind a_tokenValue a_tokenSpan a_roots iS iA iB mN mP mB mH nS nC nE nP nG nW fA fL
  | 0, hi, nS, nC, nE, nP, nG, nW, x4, ex, I => by
    subst ex
    exact br_t ga_m1neg (hE 0 hi nS nC nE nP nG nW I (fun i hlt => absurd hlt (by omega)))
  | mz + 1, hi, nS, nC, nE, nP, nG, nW, x4, ex, I => by
    rw [nI_pred] at ex
    subst ex
    obtain ⟨⟨u1, u2, u3, u4, u5, u6, u7, u8, u9, u10, u11⟩, hF, hN, hM, hB⟩ := id I
    have hL := R.2.1.1.2.1
    have hDD := R.2.1.1.1
    have ha4 := R.2.1.1.2.2 d
    have h0 := gi_hh hM (mz + 1) 0 (by omega)
    obtain ⟨a1, a2, a3, a4, a5, a6, a7, ⟨q, a8, a9, a10⟩, a11, a12, a13⟩ := hM mz (by omega)
    have cm : (nI mz).toNatClampNeg = mz := nI_clamp (by omega)
    refine br_f (nI_pos (by omega)) ⟨ga_in (by omega), ?_⟩
    have e1 : nI it - mB (nI mz).toNatClampNeg = nI (it - bs mz) := by rw [cm, a3, pk_sub a4]
    by_cases g : gg_ar G d ≤ it - bs mz
    · refine br_t (by rw [e1]; exact nI_le g (by omega)) (hE (mz + 1) hi nS nC nE nP nG nW I (fun i hlt => ?_))
      by_cases w : i = mz
      · subst w; omega
      · have := a5 i (by omega)
        omega
    · refine br_f (by rw [e1]; exact nI_ge (by omega) (by omega)) ?_
      refine gx_settle (by omega) a1 a3 a6 a8 (by omega) a4 (by omega) (by omega) (by omega) (by omega) (by omega) (by omega) a9 ?_
      refine nm_r (gl_am1 _) ?_
      exact gk_e61 R hd hu ha hz0 hE mz _ _ _ _ _ _ _ _ rfl (gj_set R I a8 a9 (Or.inr ⟨rfl, d, rfl, rfl, hd, hu, by omega, fun j hj => hz0 j (by omega)⟩))
theorem gk_enter (R : gp_R G us lc rt) (P : gk_P G us lc rt a_slotUsed a_slotArity a_slotLocals a_tokenKind a_tokenValue a_tokenSpan a_roots) (I : gi_I G us lc rt y0 H nd bs ps hh (gc_cE d) 1 1 pr pk it mz hi nn nf iS iA iB mN mP mB mH nS nC nE nP nG nW fA fL) (hd : d < 8) (hx : x + it ≤ 5 * pr + 0) (hK : ∀ s, gk_X G us lc rt y0 s (x + 1) → K (gk_T f_draftSlot f_slotTokens f_slotRoots f_itemArgument f_itemLeft f_itemRight f_itemChoice f_nodeFresh f_nodeBusy f_nodeNumber f_nodePartial f_modeRead f_modeDemand f_modeEnter f_modeGive f_placeNodes f_defs f_maxTokens f_maxPrice f_draftTarget f_draftMade a_slotUsed a_slotArity a_slotLocals a_slotSize a_tokenKind a_tokenValue a_tokenSpan a_roots G 0 0 s)) (hZ : ∀ s rs ou, gk_Z G y0 rs ou s → K (gk_T f_draftSlot f_slotTokens f_slotRoots f_itemArgument f_itemLeft f_itemRight f_itemChoice f_nodeFresh f_nodeBusy f_nodeNumber f_nodePartial f_modeRead f_modeDemand f_modeEnter f_modeGive f_placeNodes f_defs f_maxTokens f_maxPrice f_draftTarget f_draftMade a_slotUsed a_slotArity a_slotLocals a_slotSize a_tokenKind a_tokenValue a_tokenSpan a_roots G rs ou s)) :
    wpX_enter K (f_draftSlot, f_slotTokens, f_slotRoots, f_itemArgument, f_itemLeft, f_itemRight, f_itemChoice, f_nodeFresh, f_nodeBusy, f_nodeNumber, f_nodePartial, f_modeRead, f_modeDemand, f_modeEnter, f_modeGive, f_placeNodes, f_defs, f_maxTokens, nI (gg_D G), f_maxPrice, nI (gg_L G), f_draftTarget, f_draftMade, 0, nI pr, nI pk, 0, md, nA, nB, nI it, nI mz, nI hi, nI nn, nI nf, a_slotUsed, a_slotArity, a_slotLocals, a_slotSize, a_tokenKind, a_tokenValue, a_tokenSpan, a_roots, iS, iA, iB, mN, mP, mB, mH, nS, nC, nE, nP, nG, nW, fA, fL) (nI d) := by
  obtain ⟨⟨u1, u2, u3, u4, u5, u6, u7, u8, u9, u10, u11⟩, hF, hN, hM, hB⟩ := id I
  have hL := R.2.1.1.2.1
  have hDD := R.2.1.1.1
  have ha4 := R.2.1.1.2.2 d
  have h0 := gi_hh hM mz 0 (by omega)
  obtain ⟨P1, P2, P3, P4⟩ := id P
  have vd : vp_in (nI d) 9 := ga_in (by omega)
  have cd : (nI d).toNatClampNeg = d := nI_clamp (by omega)
  refine ⟨vd, ?_⟩
  by_cases hu : a_slotUsed d = 0
  · refine br_t (by rw [cd]; exact hu) ?_
    exact hZ (pr, pk, md, nA, nB, it, mz, hi, nn, nf, iS, iA, iB, mN, mP, mB, mH, nS, nC, nE, nP, nG, nW, fA, fL) 0 6 (gk_fin (by decide) (by decide) (gv_eUn R hB ((P3 d hd).mp hu)))
  · have hus : us d := by
      have := mt (P3 d hd).mpr hu
      exact Classical.not_not.mp this
    obtain ⟨p1, p2, p3, p4⟩ := P4 d hd hus
    refine br_f (by rw [cd]; exact hu) ⟨vd, nm_r (e' := nI (gg_ar G d)) (by rw [cd, p1]) ?_⟩
    by_cases g0 : gg_ar G d = 0
    · refine br_t (by rw [g0]; rfl) ?_
      have eC : gi_C H d = gc_cE d := if_pos hd
      exact hK (pr, pk, 1, nI d, 0, it, mz, hi, nn, nf, iS, iA, iB, mN, mP, mB, mH, nS, nC, nE, nP, nG, nW, fA, fL) (gk_mk (Or.inr (Or.inl ⟨rfl, ⟨d, rfl, by omega, eC.symm, fun _ => ⟨hus, g0⟩⟩, rfl, rfl, rfl⟩)) I (by omega))
    · refine br_f (nI_ne0 (by omega) (by omega)) ?_
      obtain ⟨k, k1, k2, k3, k4, k5⟩ := gx_argsT (f_draftSlot := f_draftSlot) (f_slotTokens := f_slotTokens) (f_slotRoots := f_slotRoots) (f_itemArgument := f_itemArgument) (f_itemLeft := f_itemLeft) (f_itemRight := f_itemRight) (f_itemChoice := f_itemChoice) (f_nodeFresh := f_nodeFresh) (f_nodeBusy := f_nodeBusy) (f_nodeNumber := f_nodeNumber) (f_nodePartial := f_nodePartial) (f_modeRead := f_modeRead) (f_modeDemand := f_modeDemand) (f_modeEnter := f_modeEnter) (f_modeGive := f_modeGive) (f_placeNodes := f_placeNodes) (f_defs := f_defs) (f_maxTokens := f_maxTokens) (f_maxPrice := f_maxPrice) (f_draftTarget := f_draftTarget) (f_draftMade := f_draftMade) (a_slotUsed := a_slotUsed) (a_slotArity := a_slotArity) (a_slotLocals := a_slotLocals) (a_slotSize := a_slotSize) (a_tokenKind := a_tokenKind) (a_tokenValue := a_tokenValue) (a_tokenSpan := a_tokenSpan) (a_roots := a_roots) (it := it) (mz := mz) (nn := nn) (nf := nf) (iS := iS) (iA := iA) (iB := iB) (mN := mN) (mP := mP) (mB := mB) (mH := mH) (nS := nS) (nC := nC) (nE := nE) (nP := nP) (nG := nG) (nW := nW) (fA := fA) (fL := fL) (md := md) (nA := nA) (nB := nB) (pr := pr) (pk := pk) (hi := hi) (D := gg_D G) (L := gg_L G) (rs := 0) (ou := 0) (n := gg_ar G d) (by omega) ha4
      refine k5 _ ?_
      by_cases gk : gg_ar G d ≤ k
      · obtain rfl : k = gg_ar G d := by omega
        refine br_t (Int32.le_refl _) (nm_e ⟨mz + 1, ?_⟩)
        refine gk_e61 (y0 := y0) (H := H) (nd := nd) (bs := bs) (ps := ps) (hh := hh) R hd hus k2 k3 ?_ mz hi nS nC nE nP nG nW _ rfl I
        intro mz hi nS nC nE nP nG nW I2 hb
        exact gk_call R P (gi_w I2 (Nat.zero_le _) (Nat.zero_le _)) hd hus k2 k3 hb (by omega) (fun s q => gk_eta _ (hK s q)) (fun s rs ou q => gk_eta _ (hZ s rs ou q))
      · refine br_f (nI_ge (by omega) (by omega)) ?_
        have k6 : k = it ∨ ¬ iS (it - 1 - k) = 0 := by
          rcases k4 with k4 | k4
          · omega
          · exact k4
        have fin := gv_eFew R hB hus (by omega) k2 k3 k6
        by_cases gi : k = it
        · rw [if_pos gi, if_pos gi] at fin
          refine br_t (congrArg nI gi) (nm_r (e' := nI (gg_ar G d - k)) (pk_sub (by omega)) ?_)
          exact hZ (pr, pk, md, nA, nB, it, mz, hi, nn, nf, iS, iA, iB, mN, mP, mB, mH, nS, nC, nE, nP, nG, nW, fA, fL) (nI (gg_ar G d - k)) 2 (gk_fin (by decide) (by decide) fin)
        · rw [if_neg gi, if_neg gi] at fin
          refine br_f (ga_ne gi (by omega) (by omega)) ?_
          exact hZ (pr, pk, md, nA, nB, it, mz, hi, nn, nf, iS, iA, iB, mN, mP, mB, mH, nS, nC, nE, nP, nG, nW, fA, fL) 0 5 (gk_fin (by decide) (by decide) fin)
end V
end GK6
end
section
section GK7
section V
variable {f_draftSlot f_slotTokens f_slotRoots f_itemArgument f_itemLeft f_itemRight f_itemChoice f_nodeFresh f_nodeBusy f_nodeNumber f_nodePartial f_modeRead f_modeDemand f_modeEnter f_modeGive f_placeNodes f_defs f_maxTokens f_maxPrice f_draftTarget f_draftMade : Int32} {a_slotUsed a_slotArity a_slotLocals a_slotSize a_tokenKind a_tokenValue a_tokenSpan a_roots : Nat → Int32} {G : gc_G} {us : Nat → Prop} {lc : Nat → Nat} {rt : Nat → Nat → Nat} {y0 : gc_Y} {H H2 : gc_H} {nd bs ps hh : Nat → Nat} {c c2 : gc_C} {w w2 ww : Nat} {md nA nB v : Int32} {pr pk it mz hi nn nf : Nat} {iS iA iB mN mP mB mH nS nC nE nP nG nW fA fL : Nat → Int32} {K : SX → Prop} {x e f d k n : Nat} {iS2 iA2 iB2 : Nat → Int32}
theorem gk_g7 (R : gp_R G us lc rt)
    (hE : ∀ (mz hi : Nat) (nS nC nE nP nG nW : Nat → Int32), gi_I G us lc rt y0 H nd bs ps hh (gc_cV v) 1 0 pr pk it mz hi nn nf iS iA iB mN mP mB mH nS nC nE nP nG nW fA fL → (∀ i, i < mz → bs i < it) → wX_give_36 K v f_draftSlot f_slotTokens f_slotRoots f_itemArgument f_itemLeft f_itemRight f_itemChoice f_nodeFresh f_nodeBusy f_nodeNumber f_nodePartial f_modeRead f_modeDemand f_modeEnter f_modeGive f_placeNodes f_defs f_maxTokens (nI (gg_D G)) f_maxPrice (nI (gg_L G)) f_draftTarget f_draftMade 0 (nI pr) (nI pk) 0 md nA nB (nI it) (nI mz) (nI hi) (nI nn) (nI nf) a_slotUsed a_slotArity a_slotLocals a_slotSize a_tokenKind a_tokenValue a_tokenSpan a_roots iS iA iB mN mP mB mH nS nC nE nP nG nW fA fL) :
    ∀ (mz hi : Nat) (nS nC nE nP nG nW : Nat → Int32) (x4 : Int32), x4 = nI mz - 1 → gi_I G us lc rt y0 H nd bs ps hh (gc_cV v) 1 0 pr pk it mz hi nn nf iS iA iB mN mP mB mH nS nC nE nP nG nW fA fL → wX_give_7 K v (mz + 1) x4 f_draftSlot f_slotTokens f_slotRoots f_itemArgument f_itemLeft f_itemRight f_itemChoice f_nodeFresh f_nodeBusy f_nodeNumber f_nodePartial f_modeRead f_modeDemand f_modeEnter f_modeGive f_placeNodes f_defs f_maxTokens (nI (gg_D G)) f_maxPrice (nI (gg_L G)) f_draftTarget f_draftMade 0 (nI pr) (nI pk) 0 md nA nB (nI it) (nI mz) (nI hi) (nI nn) (nI nf) a_slotUsed a_slotArity a_slotLocals a_slotSize a_tokenKind a_tokenValue a_tokenSpan a_roots iS iA iB mN mP mB mH nS nC nE nP nG nW fA fL
  | 0, hi, nS, nC, nE, nP, nG, nW, x4, ex, I => by
    subst ex
    exact br_t ga_m1neg (hE 0 hi nS nC nE nP nG nW I (fun i hlt => absurd hlt (by omega)))
  | mz + 1, hi, nS, nC, nE, nP, nG, nW, x4, ex, I => by
    rw [nI_pred] at ex
    subst ex
    obtain ⟨⟨u1, u2, u3, u4, u5, u6, u7, u8, u9, u10, u11⟩, hF, hN, hM, hB⟩ := id I
    have hL := R.2.1.1.2.1
    have hDD := R.2.1.1.1
    have h0 := gi_hh hM (mz + 1) 0 (by omega)
    obtain ⟨a1, a2, a3, a4, a5, a6, a7, ⟨q, a8, a9, a10⟩, a11, a12, a13⟩ := hM mz (by omega)
    have cm : (nI mz).toNatClampNeg = mz := nI_clamp (by omega)
    refine br_f (nI_pos (by omega)) ⟨ga_in (by omega), ?_⟩
    by_cases g : bs mz = it
    · refine br_t (by rw [cm, a3, g]) ?_
      refine gx_settle (by omega) a1 a3 a6 a8 (by omega) a4 (by omega) (by omega) (by omega) (by omega) (by omega) (by omega) a9 ?_
      refine nm_r (gl_am1 _) ?_
      exact gk_g7 R hE mz _ _ _ _ _ _ _ _ rfl (gj_set R I a8 a9 (Or.inl ⟨rfl, rfl, g⟩))
    · refine br_f (by rw [cm, a3]; exact ga_ne g (by omega) (by omega)) (hE (mz + 1) hi nS nC nE nP nG nW I (fun i hlt => ?_))
      by_cases w : i = mz
      · subst w; omega
      · have := a5 i (by omega)
        omega
theorem gk_cmp {ps : Int32 → Prop} {rs ou u1 u2 : Int32} {D L : Nat} {j : Nat} (h1 : 6 ≤ j) (h2 : j ≤ 10) (h : ps (gp_cm (nI j) u1 u2)) : wpX_compute ps (f_draftSlot, f_slotTokens, f_slotRoots, f_itemArgument, f_itemLeft, f_itemRight, f_itemChoice, f_nodeFresh, f_nodeBusy, f_nodeNumber, f_nodePartial, f_modeRead, f_modeDemand, f_modeEnter, f_modeGive, f_placeNodes, f_defs, f_maxTokens, nI D, f_maxPrice, nI L, f_draftTarget, f_draftMade, rs, nI pr, nI pk, ou, md, nA, nB, nI it, nI mz, nI hi, nI nn, nI nf, a_slotUsed, a_slotArity, a_slotLocals, a_slotSize, a_tokenKind, a_tokenValue, a_tokenSpan, a_roots, iS, iA, iB, mN, mP, mB, mH, nS, nC, nE, nP, nG, nW, fA, fL) (nI j) u1 u2 := by
  have hj : j = 6 ∨ j = 7 ∨ j = 8 ∨ j = 9 ∨ j = 10 := by omega
  rcases hj with rfl | rfl | rfl | rfl | rfl
  · exact br_f (by decide) (br_f (by decide) (br_t rfl h))
  · exact br_f (by decide) (br_f (by decide) (br_f (by decide) (br_t rfl h)))
  · exact br_f (by decide) (br_f (by decide) (br_f (by decide) (br_f (by decide) (br_t rfl h))))
  · have e : gp_cm (nI 9) u1 u2 = if u2 ≤ u1 then 0 else 1 := by
      unfold gp_cm
      rw [if_neg (by decide), if_neg (by decide), if_neg (by decide), if_pos (by decide)]
    rw [e] at h
    by_cases g : u2 ≤ u1
    · rw [if_pos g] at h
      exact br_f (by decide) (br_f (by decide) (br_f (by decide) (br_f (by decide) (br_f (by decide) (br_t rfl (br_t g h))))))
    · rw [if_neg g] at h
      exact br_f (by decide) (br_f (by decide) (br_f (by decide) (br_f (by decide) (br_f (by decide) (br_t rfl (br_f g h))))))
  · have e : gp_cm (nI 10) u1 u2 = if u1 = u2 then 1 else 0 := by
      unfold gp_cm
      rw [if_neg (by decide), if_neg (by decide), if_neg (by decide), if_neg (by decide)]
    rw [e] at h
    by_cases g : u1 = u2
    · rw [if_pos g] at h
      exact br_f (by decide) (br_t (by decide) (br_t g h))
    · rw [if_neg g] at h
      exact br_f (by decide) (br_t (by decide) (br_f g h))
theorem gk_g36 (R : gp_R G us lc rt) (P : gk_P G us lc rt a_slotUsed a_slotArity a_slotLocals a_tokenKind a_tokenValue a_tokenSpan a_roots) (I : gi_I G us lc rt y0 H nd bs ps hh (gc_cV v) 1 0 pr pk it mz hi nn nf iS iA iB mN mP mB mH nS nC nE nP nG nW fA fL) (hb : ∀ i, i < mz → bs i < it) (hx : x + it ≤ 5 * pr + 1) (hK : ∀ s, gk_X G us lc rt y0 s (x + 1) → K (gk_T f_draftSlot f_slotTokens f_slotRoots f_itemArgument f_itemLeft f_itemRight f_itemChoice f_nodeFresh f_nodeBusy f_nodeNumber f_nodePartial f_modeRead f_modeDemand f_modeEnter f_modeGive f_placeNodes f_defs f_maxTokens f_maxPrice f_draftTarget f_draftMade a_slotUsed a_slotArity a_slotLocals a_slotSize a_tokenKind a_tokenValue a_tokenSpan a_roots G 0 0 s)) (hZ : ∀ s rs ou, gk_Z G y0 rs ou s → K (gk_T f_draftSlot f_slotTokens f_slotRoots f_itemArgument f_itemLeft f_itemRight f_itemChoice f_nodeFresh f_nodeBusy f_nodeNumber f_nodePartial f_modeRead f_modeDemand f_modeEnter f_modeGive f_placeNodes f_defs f_maxTokens f_maxPrice f_draftTarget f_draftMade a_slotUsed a_slotArity a_slotLocals a_slotSize a_tokenKind a_tokenValue a_tokenSpan a_roots G rs ou s)) :
    wX_give_36 K v f_draftSlot f_slotTokens f_slotRoots f_itemArgument f_itemLeft f_itemRight f_itemChoice f_nodeFresh f_nodeBusy f_nodeNumber f_nodePartial f_modeRead f_modeDemand f_modeEnter f_modeGive f_placeNodes f_defs f_maxTokens (nI (gg_D G)) f_maxPrice (nI (gg_L G)) f_draftTarget f_draftMade 0 (nI pr) (nI pk) 0 md nA nB (nI it) (nI mz) (nI hi) (nI nn) (nI nf) a_slotUsed a_slotArity a_slotLocals a_slotSize a_tokenKind a_tokenValue a_tokenSpan a_roots iS iA iB mN mP mB mH nS nC nE nP nG nW fA fL := by
  obtain ⟨⟨u1, u2, u3, u4, u5, u6, u7, u8, u9, u10, u11⟩, hF, hN, hM, hB⟩ := id I
  have hL := R.2.1.1.2.1
  have hDD := R.2.1.1.1
  have h0 := gi_hh hM mz 0 (by omega)
  by_cases g0 : it = 0
  · subst g0
    refine br_t rfl ?_
    exact hZ (pr, pk, md, nA, nB, 0, mz, hi, nn, nf, iS, iA, iB, mN, mP, mB, mH, nS, nC, nE, nP, nG, nW, fA, fL) v 1 (gk_fin (by decide) (by decide) (gv_eVal R hB))
  · have vt : vp_in (nI (it - 1)) 200 := ga_in (by omega)
    have ct : (nI (it - 1)).toNatClampNeg = it - 1 := nI_clamp (by omega)
    refine br_f (nI_ne0 (by omega) (by omega)) (nm_r (ga_s (by omega)) ⟨vt, nm_r (e' := iA (it - 1)) (by rw [ct]) ⟨vt, nm_r (e' := iB (it - 1)) (by rw [ct]) ⟨vt, ?_⟩⟩⟩)
    rw [ct]
    have hb1 : ∀ i, i < mz → bs i ≤ it - 1 := fun i hlt => by have := hb i hlt; omega
    obtain ⟨m, y, r, fcf, q⟩ := id hB
    obtain ⟨it', fr, pd, hi', en, ou, gv, vv, ex, fm, jS, jA, jB, jF, aE, aF⟩ := y
    obtain ⟨o, _, h3, h4⟩ := fcf
    have ic := gv_top (by omega) h3 h4 (i := 0) (by omega)
    rw [Nat.sub_zero] at ic
    rcases ic with ⟨i1, _⟩ | ⟨i1, _, p, f, g, i2, i3, i4, i5, i6, _⟩ | ⟨i1, _, p, i2, i3, i4, _⟩ | ⟨i1, _, p, f, g, i2, i3, i4, i5, i6, _⟩
    · refine br_t i1 ?_
      exact hZ (pr, pk, md, nA, nB, it, mz, hi, nn, nf, iS, iA, iB, mN, mP, mB, mH, nS, nC, nE, nP, nG, nW, fA, fL) 0 4 (gk_fin (by decide) (by decide) (gv_eNf R hB (by omega) i1))
    · obtain ⟨s1, s2, s3, s4, s5⟩ := gk_s5 R i5 (Or.inr i6)
      have e1 : iA (it - 1) - 1 = nI (p - 1) := by rw [i2, ga_s (by omega)]
      refine br_f (by rw [i1]; decide) ⟨vt, br_t i1 ⟨vt, nm_e ⟨vt, nm_e ?_⟩⟩⟩
      rw [e1, i3]
      refine hK (pr, pk, 0, nI (p - 1), nI f, it, mz, hi, nn, nf, upd iS (it - 1) 2, iA, upd iB (it - 1) v, mN, mP, mB, mH, nS, nC, nE, nP, nG, nW, fA, fL)
        (gk_mk (Or.inl ⟨rfl, ⟨_, _, rfl, rfl, rfl, i4, s3⟩, rfl, rfl, rfl⟩) (gi_flat (k := 0) R.1 I (bm := it - 1) (fun b hb2 => ?_) hb1 (fun i hlt => Nat.le_of_lt (hb i hlt)) (Nat.le_refl _) u4 (by omega) (by omega) (by omega) (by omega)) (by omega))
      exact gv_Lft R (by omega) i4 i5 i6 i1 i2 i3 (fun j hj => ⟨pk_un (by omega), rfl, pk_un (by omega)⟩) pk_us i2 pk_us
    · have cp : (iA (it - 1)).toNatClampNeg = p := by rw [i2, nI_clamp (by omega)]
      have vp : vp_in (iA (it - 1)) 216 := by rw [i2]; exact ga_in i3
      have ek : a_tokenKind (iA (it - 1)).toNatClampNeg = gg_k G p := by rw [cp]; exact (P.1 p i3).1
      refine br_f (by rw [i1]; decide) ⟨vt, br_f (by rw [i1]; decide) ⟨vt, br_t i1 ⟨vp, ?_⟩⟩⟩
      rw [ek]
      obtain ⟨j, j1, j2, j3⟩ := i4
      rw [j3]
      refine gk_cmp j1 j2 ?_
      refine hK (pr, pk, 3, gp_cm (nI j) (iB (it - 1)) v, 0, it - 1, mz, hi, nn, nf, iS, iA, iB, mN, mP, mB, mH, nS, nC, nE, nP, nG, nW, fA, fL)
        (gk_mk (Or.inr (Or.inr (Or.inr ⟨rfl, rfl, rfl, rfl, rfl⟩))) (gi_flat (k := 0) R.1 I (bm := it - 1) (fun b hb2 => ?_) hb1 hb1 (by omega) u4 (by omega) (by omega) (by omega) (by omega)) (by omega))
      rw [← j3]
      exact gv_Rgt R (by omega) i3 i1 i2
    · obtain ⟨s1, s2, s3, s4, s5, s6, s7⟩ := gk_s11 R i5 i6
      have e1 : iA (it - 1) - 1 = nI (p - 1) := by rw [i2, ga_s (by omega)]
      have hs : ∀ b, b ≤ it - 1 → gc_ST G H (gc_cV v) iS iA iB b it (gc_cR (if v = 0 then p - 1 else gp_bf G (p - 1)) f) iS iA iB (it - 1) 0 it := fun b hb2 => gv_Cho R (by omega) i4 i5 i6 i1 i2 i3
      have hI := gi_flat (w' := 0) (w2' := 0) R.1 I (bm := it - 1) hs hb1 hb1 (by omega) u4 (by omega) (by omega) (by omega) (by omega)
      refine br_f (by rw [i1]; decide) ⟨vt, br_f (by rw [i1]; decide) ⟨vt, br_f (by rw [i1]; decide) ?_⟩⟩
      unfold wpX_choose
      refine nm_r e1 ?_
      by_cases gz : v = 0
      · rw [if_pos gz] at hI
        refine br_t gz ?_
        rw [i3]
        exact hK (pr, pk, 0, nI (p - 1), nI f, it - 1, mz, hi, nn, nf, iS, iA, iB, mN, mP, mB, mH, nS, nC, nE, nP, nG, nW, fA, fL) (gk_mk (Or.inl ⟨rfl, ⟨_, _, rfl, rfl, rfl, i4, s3⟩, rfl, rfl, rfl⟩) hI (by omega))
      · rw [if_neg gz] at hI
        refine br_f gz ?_
        rw [e1]
        refine gk_bfr P s3 (by omega) s4 ?_
        rw [i3]
        exact hK (pr, pk, 0, nI (gp_bf G (p - 1)), nI f, it - 1, mz, hi, nn, nf, iS, iA, iB, mN, mP, mB, mH, nS, nC, nE, nP, nG, nW, fA, fL) (gk_mk (Or.inl ⟨rfl, ⟨_, _, rfl, rfl, rfl, i4, s5⟩, rfl, rfl, rfl⟩) hI (by omega))
theorem gk_give (R : gp_R G us lc rt) (P : gk_P G us lc rt a_slotUsed a_slotArity a_slotLocals a_tokenKind a_tokenValue a_tokenSpan a_roots) (I : gi_I G us lc rt y0 H nd bs ps hh (gc_cV v) 1 0 pr pk it mz hi nn nf iS iA iB mN mP mB mH nS nC nE nP nG nW fA fL) (hx : x + it ≤ 5 * pr + 1) (hK : ∀ s, gk_X G us lc rt y0 s (x + 1) → K (gk_T f_draftSlot f_slotTokens f_slotRoots f_itemArgument f_itemLeft f_itemRight f_itemChoice f_nodeFresh f_nodeBusy f_nodeNumber f_nodePartial f_modeRead f_modeDemand f_modeEnter f_modeGive f_placeNodes f_defs f_maxTokens f_maxPrice f_draftTarget f_draftMade a_slotUsed a_slotArity a_slotLocals a_slotSize a_tokenKind a_tokenValue a_tokenSpan a_roots G 0 0 s)) (hZ : ∀ s rs ou, gk_Z G y0 rs ou s → K (gk_T f_draftSlot f_slotTokens f_slotRoots f_itemArgument f_itemLeft f_itemRight f_itemChoice f_nodeFresh f_nodeBusy f_nodeNumber f_nodePartial f_modeRead f_modeDemand f_modeEnter f_modeGive f_placeNodes f_defs f_maxTokens f_maxPrice f_draftTarget f_draftMade a_slotUsed a_slotArity a_slotLocals a_slotSize a_tokenKind a_tokenValue a_tokenSpan a_roots G rs ou s)) :
    wpX_give K (f_draftSlot, f_slotTokens, f_slotRoots, f_itemArgument, f_itemLeft, f_itemRight, f_itemChoice, f_nodeFresh, f_nodeBusy, f_nodeNumber, f_nodePartial, f_modeRead, f_modeDemand, f_modeEnter, f_modeGive, f_placeNodes, f_defs, f_maxTokens, nI (gg_D G), f_maxPrice, nI (gg_L G), f_draftTarget, f_draftMade, 0, nI pr, nI pk, 0, md, nA, nB, nI it, nI mz, nI hi, nI nn, nI nf, a_slotUsed, a_slotArity, a_slotLocals, a_slotSize, a_tokenKind, a_tokenValue, a_tokenSpan, a_roots, iS, iA, iB, mN, mP, mB, mH, nS, nC, nE, nP, nG, nW, fA, fL) v := by
  refine nm_e ⟨mz + 1, ?_⟩
  refine gk_g7 (y0 := y0) (H := H) (nd := nd) (bs := bs) (ps := ps) (hh := hh) R ?_ mz hi nS nC nE nP nG nW _ rfl I
  intro mz hi nS nC nE nP nG nW I2 hb
  exact gk_g36 R P I2 hb hx hK hZ
end V
end GK7
end
section
section GM
def gm_K (post : SX → Prop) (n x : Nat) (u : SX) : Prop := match u with
  | (f_draftSlot, f_slotTokens, f_slotRoots, f_itemArgument, f_itemLeft, f_itemRight, f_itemChoice, f_nodeFresh, f_nodeBusy, f_nodeNumber, f_nodePartial, f_modeRead, f_modeDemand, f_modeEnter, f_modeGive, f_placeNodes, f_defs, f_maxTokens, f_depth, f_maxPrice, f_limit, f_draftTarget, f_draftMade, f_result, f_price, f_peak, f_outcome, f_mode, f_nowA, f_nowB, f_items, f_marks, f_high, f_nodes, f_frames, a_slotUsed, a_slotArity, a_slotLocals, a_slotSize, a_tokenKind, a_tokenValue, a_tokenSpan, a_roots, a_itemSort, a_itemA, a_itemB, a_markNode, a_markPrice, a_markBase, a_markHigh, a_nodeState, a_nodeCode, a_nodeExtra, a_nodePrice, a_nodeHeight, a_nodeHeld, a_frameArgs, a_frameLocals) => ∀ z : Int32, z = nI x + 1 → wX_run_2 post n z f_draftSlot f_slotTokens f_slotRoots f_itemArgument f_itemLeft f_itemRight f_itemChoice f_nodeFresh f_nodeBusy f_nodeNumber f_nodePartial f_modeRead f_modeDemand f_modeEnter f_modeGive f_placeNodes f_defs f_maxTokens f_depth f_maxPrice f_limit f_draftTarget f_draftMade f_result f_price f_peak f_outcome f_mode f_nowA f_nowB f_items f_marks f_high f_nodes f_frames a_slotUsed a_slotArity a_slotLocals a_slotSize a_tokenKind a_tokenValue a_tokenSpan a_roots a_itemSort a_itemA a_itemB a_markNode a_markPrice a_markBase a_markHigh a_nodeState a_nodeCode a_nodeExtra a_nodePrice a_nodeHeight a_nodeHeld a_frameArgs a_frameLocals
section V
variable {f_draftSlot f_slotTokens f_slotRoots f_itemArgument f_itemLeft f_itemRight f_itemChoice f_nodeFresh f_nodeBusy f_nodeNumber f_nodePartial f_modeRead f_modeDemand f_modeEnter f_modeGive f_placeNodes f_defs f_maxTokens f_maxPrice f_draftTarget f_draftMade : Int32} {a_slotUsed a_slotArity a_slotLocals a_slotSize a_tokenKind a_tokenValue a_tokenSpan a_roots : Nat → Int32} {G : gc_G} {us : Nat → Prop} {lc : Nat → Nat} {rt : Nat → Nat → Nat} {y0 : gc_Y} {H H2 : gc_H} {nd bs ps hh : Nat → Nat} {c c2 : gc_C} {w w2 ww : Nat} {md nA nB v : Int32} {pr pk it mz hi nn nf : Nat} {iS iA iB mN mP mB mH nS nC nE nP nG nW fA fL : Nat → Int32} {post : SX → Prop} {x e f d k n : Nat}
theorem gm_run (R : gp_R G us lc rt) (P : gk_P G us lc rt a_slotUsed a_slotArity a_slotLocals a_tokenKind a_tokenValue a_tokenSpan a_roots) (hp : ∀ s rs ou, gk_Z G y0 rs ou s → post (gk_T f_draftSlot f_slotTokens f_slotRoots f_itemArgument f_itemLeft f_itemRight f_itemChoice f_nodeFresh f_nodeBusy f_nodeNumber f_nodePartial f_modeRead f_modeDemand f_modeEnter f_modeGive f_placeNodes f_defs f_maxTokens f_maxPrice f_draftTarget f_draftMade a_slotUsed a_slotArity a_slotLocals a_slotSize a_tokenKind a_tokenValue a_tokenSpan a_roots G rs ou s)) :
    ∀ n x (pr pk : Nat) (md nA nB : Int32) (it mz hi nn nf : Nat) (iS iA iB mN mP mB mH nS nC nE nP nG nW fA fL : Nat → Int32), x + n = 20010 → gk_X G us lc rt y0 (pr, pk, md, nA, nB, it, mz, hi, nn, nf, iS, iA, iB, mN, mP, mB, mH, nS, nC, nE, nP, nG, nW, fA, fL) x → wX_run_2 post n (nI x) f_draftSlot f_slotTokens f_slotRoots f_itemArgument f_itemLeft f_itemRight f_itemChoice f_nodeFresh f_nodeBusy f_nodeNumber f_nodePartial f_modeRead f_modeDemand f_modeEnter f_modeGive f_placeNodes f_defs f_maxTokens (nI (gg_D G)) f_maxPrice (nI (gg_L G)) f_draftTarget f_draftMade 0 (nI pr) (nI pk) 0 md nA nB (nI it) (nI mz) (nI hi) (nI nn) (nI nf) a_slotUsed a_slotArity a_slotLocals a_slotSize a_tokenKind a_tokenValue a_tokenSpan a_roots iS iA iB mN mP mB mH nS nC nE nP nG nW fA fL
  | 0, x, pr, pk, md, nA, nB, it, mz, hi, nn, nf, iS, iA, iB, mN, mP, mB, mH, nS, nC, nE, nP, nG, nW, fA, fL, hn, hX => by
    obtain ⟨H, nd, bs, ps, hh, c, w, w2, ww, hk, I, hx⟩ := hX
    obtain ⟨⟨u1, u2, u3, u4, u5, u6, u7, u8, u9, u10, u11⟩, _⟩ := I
    have hL := R.2.1.1.2.1
    rcases hk with ⟨_, _, _, _, h⟩ | ⟨_, _, _, _, h⟩ | ⟨_, _, _, _, h⟩ | ⟨_, _, _, _, h⟩ <;> omega
  | n + 1, x, pr, pk, md, nA, nB, it, mz, hi, nn, nf, iS, iA, iB, mN, mP, mB, mH, nS, nC, nE, nP, nG, nW, fA, fL, hn, hX => by
    have hX' := hX
    obtain ⟨H, nd, bs, ps, hh, c, w, w2, ww, hk, I, hx⟩ := hX
    have hL := R.2.1.1.2.1
    have hx2 : x ≤ 20002 := by
      obtain ⟨⟨u1, u2, u3, u4, u5, u6, u7, u8, u9, u10, u11⟩, _⟩ := id I
      rcases hk with ⟨_, _, _, _, h⟩ | ⟨_, _, _, _, h⟩ | ⟨_, _, _, _, h⟩ | ⟨_, _, _, _, h⟩ <;> omega
    have hK : ∀ s, gk_X G us lc rt y0 s (x + 1) → gm_K post n x (gk_T f_draftSlot f_slotTokens f_slotRoots f_itemArgument f_itemLeft f_itemRight f_itemChoice f_nodeFresh f_nodeBusy f_nodeNumber f_nodePartial f_modeRead f_modeDemand f_modeEnter f_modeGive f_placeNodes f_defs f_maxTokens f_maxPrice f_draftTarget f_draftMade a_slotUsed a_slotArity a_slotLocals a_slotSize a_tokenKind a_tokenValue a_tokenSpan a_roots G 0 0 s) := by
      intro s hs
      obtain ⟨pr, pk, md, nA, nB, it, mz, hi, nn, nf, iS, iA, iB, mN, mP, mB, mH, nS, nC, nE, nP, nG, nW, fA, fL⟩ := s
      intro z e
      rw [e, nI_1]
      exact gm_run R P hp n (x + 1) pr pk md nA nB it mz hi nn nf iS iA iB mN mP mB mH nS nC nE nP nG nW fA fL (by omega) hs
    have hZ : ∀ s rs ou, gk_Z G y0 rs ou s → gm_K post n x (gk_T f_draftSlot f_slotTokens f_slotRoots f_itemArgument f_itemLeft f_itemRight f_itemChoice f_nodeFresh f_nodeBusy f_nodeNumber f_nodePartial f_modeRead f_modeDemand f_modeEnter f_modeGive f_placeNodes f_defs f_maxTokens f_maxPrice f_draftTarget f_draftMade a_slotUsed a_slotArity a_slotLocals a_slotSize a_tokenKind a_tokenValue a_tokenSpan a_roots G rs ou s) := by
      intro s rs ou hs
      have hps := hp s rs ou hs
      obtain ⟨pr, pk, md, nA, nB, it, mz, hi, nn, nf, iS, iA, iB, mN, mP, mB, mH, nS, nC, nE, nP, nG, nW, fA, fL⟩ := s
      intro z e
      rw [e, nI_1]
      obtain ⟨n', rfl⟩ : ∃ n', n = n' + 1 := ⟨n - 1, by omega⟩
      have ho : ¬ ou = 0 := by
        rcases hs with ⟨h, _⟩ | ⟨h, _⟩
        · rw [h]; decide
        · exact h
      exact br_f (nI_ge (b := 100000) (by omega) (by omega)) (br_f ho (br_f ho hps))
    refine br_f (nI_ge (b := 100000) (by omega) (by omega)) (br_t rfl ?_)
    rcases hk with ⟨rfl, ⟨e, f, rfl, rfl, rfl, h1, h2⟩, rfl, rfl, rfl⟩ | ⟨rfl, ⟨q, rfl, h1, rfl, h2⟩, rfl, rfl, rfl⟩ | ⟨rfl, ⟨d, rfl, h1, rfl⟩, rfl, rfl, rfl⟩ | ⟨rfl, rfl, rfl, rfl, rfl⟩
    · refine br_t rfl ?_
      exact gk_read (K := gm_K post n x) R P I h1 h2 hx hK hZ
    · refine br_f (by decide) (br_t rfl ?_)
      have h1' : q < nn := by rw [I.1.2.1]; exact h1
      exact gk_demand (K := gm_K post n x) R P I h1' h2 hx hK hZ
    · refine br_f (by decide) (br_f (by decide) (br_t rfl ?_))
      exact gk_enter (K := gm_K post n x) R P I h1 hx hK hZ
    · refine br_f (by decide) (br_f (by decide) (br_f (by decide) ?_))
      exact gk_give (K := gm_K post n x) R P I hx hK hZ
/-- the start: cnt integers on the list, definition d entered -/
theorem gm_init {cnt : Nat} {tk : Nat → Nat} {vv : Int32} {jS jA jB jF aE aF : Nat → Int32} (R : gp_R G us lc rt) (hc : cnt ≤ 2) (h8 : 8 ≤ gg_D G) (h1 : 1 ≤ gg_L G) (hd : d < 8) (ht : ∀ j, j < cnt → tk j < 240 ∧ gg_k G (tk j) = 1)
    (hx : ∀ j, j < cnt → iS j = 0 ∧ iA j = nI (8 + j) ∧ jS j = 1 ∧ jA j = nI (tk j)) (hn0 : ∀ n, n < 8 → nS n = 0) (hn : ∀ j, j < cnt → nS (8 + j) = 2 ∧ nC (8 + j) = gg_v G (tk j) ∧ nP (8 + j) = 1 ∧ nG (8 + j) = 0)
    (he : gg_k G 218 = 4 ∧ gg_v G 218 = nI d) :
    gk_X G us lc rt (cnt, 0, 0, cnt, 0, 0, 0, vv, nI 218, 0, jS, jA, jB, jF, aE, aF) (1, cnt, 2, nI d, 0, cnt, 0, cnt, 8 + cnt, 0, iS, iA, iB, mN, mP, mB, mH, nS, nC, nE, nP, nG, nW, fA, fL) 0 := by
  have eT : ∀ j, gh_oT (0, 8 + cnt, fun _ => 0, fun _ _ => 0, fun q => tk (q - 8), fun _ => 0) (8 + j) = tk j := fun j => by
    show tk (8 + j - 8) = tk j
    rw [show 8 + j - 8 = j from by omega]
  refine gk_mk (H := (0, 8 + cnt, fun _ => 0, fun _ _ => 0, fun q => tk (q - 8), fun _ => 0)) (nd := fun _ => 0) (bs := fun _ => 0) (ps := fun _ => 0) (hh := fun _ => cnt) (Or.inr (Or.inr (Or.inl ⟨rfl, ⟨d, rfl, hd, rfl⟩, rfl, rfl, rfl⟩))) ?_ (by omega)
  refine ⟨⟨rfl, rfl, by omega, h1, Nat.le_refl _, by omega, by omega, by omega, by omega, rfl, rfl⟩, fun f hf => absurd hf (Nat.not_lt_zero f), fun n hlt => ?_, fun i hi => absurd hi (by omega), ?_⟩
  · by_cases g : n < 8
    · exact Or.inl ⟨hn0 n g, fun z => absurd g (by omega)⟩
    · obtain ⟨j, rfl⟩ : ∃ j, n = 8 + j := ⟨n - 8, by omega⟩
      obtain ⟨n1, n2, n3, n4⟩ := hn j (by omega)
      refine Or.inr (Or.inr (Or.inl ⟨n1, 1, 0, n3, n4, by omega, by omega, by omega, ?_⟩))
      have eC : gi_C (0, 8 + cnt, fun _ => 0, fun _ _ => 0, fun q => tk (q - 8), fun _ => 0) (8 + j) = gc_cR (tk j) 0 := by
        unfold gi_C
        rw [if_neg (by omega), eT]
        rfl
      rw [eC, n2]
      exact gp_sNum R (ht j (by omega)).2
  · refine ⟨fun _ => 0, _, R.1.1 _, And.intro ⟨rfl, rfl, Nat.le_refl _, by omega, h1, by omega, fun g hg => absurd hg (Nat.not_lt_zero g), show 0 ≤ 1000 by omega, show 8 + cnt ≤ 5000 by omega⟩ (And.intro ⟨rfl, ⟨218, by omega, rfl, he.1, he.2, hd⟩, rfl⟩ (And.intro (by omega) ?_)), rfl⟩
    intro j hj
    obtain ⟨x1, x2, x3, x4⟩ := hx j (by omega)
    rw [Nat.zero_add, x1, x2, x3, x4]
    refine Or.inl ⟨rfl, rfl, 8 + j, rfl, by omega, show 8 + j < 8 + cnt by omega, by rw [eT], ?_⟩
    rw [eT]
    exact ⟨(ht j (by omega)).1, Or.inl (ht j (by omega)).2⟩
end V
end GM
end
section
section GN
theorem gn_clamp (x : Int32) {lo hi : Nat} (h : lo ≤ hi) (hh : hi < 2 ^ 31) : ∃ n, lo ≤ n ∧ n ≤ hi ∧ (∀ (post : Int32 → Prop) (u : SX), post (nI n) → wpX_clamp post u x (nI lo) (nI hi)) ∧ ∀ (post : Int32 → Prop) (u : SY), post (nI n) → wpY_clamp post u x (nI lo) (nI hi) := by
  by_cases g : nI lo ≤ x
  · by_cases g2 : x ≤ nI hi
    · have g3 : ¬ x < 0 := by
        have := nI_pos' (n := lo) (by omega)
        exact Int32.not_lt.mpr (Int32.le_trans this g)
      obtain ⟨j, j1, rfl⟩ := nI_of g3
      rw [nI_leI (by omega) j1] at g
      rw [nI_leI j1 hh] at g2
      exact ⟨j, g, g2, fun post u hp => br_t (nI_le g j1) (br_t (nI_le g2 hh) hp), fun post u hp => br_t (nI_le g j1) (br_t (nI_le g2 hh) hp)⟩
    · exact ⟨hi, h, Nat.le_refl _, fun post u hp => br_t g (br_f g2 hp), fun post u hp => br_t g (br_f g2 hp)⟩
  · exact ⟨lo, Nat.le_refl _, h, fun post u hp => br_f g hp, fun post u hp => br_f g hp⟩
theorem i_vc0 (k0 : Int32) (k1 : Int32) (k2 : Int32) (k3 : Int32) : wpX_init (fun u => wpY_init (fun v => i_Rel 4 u v) k0 k1 k2 k3) k0 k1 k2 k3 := by
  obtain ⟨a, a1, a2, aX, aY⟩ := gn_clamp k0 (lo := 1) (hi := 8) (by omega) (by omega)
  obtain ⟨b, b1, b2, bX, bY⟩ := gn_clamp k1 (lo := 8) (hi := 24) (by omega) (by omega)
  obtain ⟨c, c1, c2, cX, cY⟩ := gn_clamp k2 (lo := 8) (hi := 200) (by omega) (by omega)
  obtain ⟨d, d1, d2, dX, dY⟩ := gn_clamp k3 (lo := 64) (hi := 4000) (by omega) (by omega)
  unfold wpX_init wpY_init
  refine aX _ _ (bX _ _ (cX _ _ (dX _ _ (aY _ _ (bY _ _ (cY _ _ (dY _ _ ?_)))))))
  exact gr_in ⟨a1, a2, b1, b2, c1, c2, d1, d2, by omega, Nat.le_refl _⟩ (fun q _ => ⟨rfl, rfl⟩) ⟨fun d _ h => absurd rfl h, fun h => absurd rfl h⟩
section V
variable {f_draftSlot f_slotTokens f_slotRoots f_itemArgument f_itemLeft f_itemRight f_itemChoice f_nodeFresh f_nodeBusy f_nodeNumber f_nodePartial f_modeRead f_modeDemand f_modeEnter f_modeGive f_placeNodes f_draftTarget f_draftMade f_result f_price f_peak f_outcome f_mode f_nowA f_nowB f_items f_marks f_high f_nodes f_frames : Int32} {a_slotUsed a_slotArity a_slotLocals a_slotSize a_tokenKind a_tokenValue a_tokenSpan a_roots a_itemSort a_itemA a_itemB a_markNode a_markPrice a_markBase a_markHigh a_nodeState a_nodeCode a_nodeExtra a_nodePrice a_nodeHeight a_nodeHeld a_frameArgs a_frameLocals : Nat → Int32} {g_items g_frames g_paid g_high g_ending g_outcome g_giving g_value g_expr g_frame : Int32} {b_kind b_val b_itemSort b_itemA b_itemB b_itemFrame b_argExpr b_argFrame : Nat → Int32} {df mt D mp L k : Nat} {v1 v2 v3 : Int32}
theorem gn_pl0 {post : Int32 → Prop} {x : Int32} (hx : x < 0 ∨ nI df ≤ x) (h : post 0) : wpX_isPlace post (f_draftSlot, f_slotTokens, f_slotRoots, f_itemArgument, f_itemLeft, f_itemRight, f_itemChoice, f_nodeFresh, f_nodeBusy, f_nodeNumber, f_nodePartial, f_modeRead, f_modeDemand, f_modeEnter, f_modeGive, f_placeNodes, nI df, nI mt, nI D, nI mp, nI L, f_draftTarget, f_draftMade, f_result, f_price, f_peak, f_outcome, f_mode, f_nowA, f_nowB, f_items, f_marks, f_high, f_nodes, f_frames, a_slotUsed, a_slotArity, a_slotLocals, a_slotSize, a_tokenKind, a_tokenValue, a_tokenSpan, a_roots, a_itemSort, a_itemA, a_itemB, a_markNode, a_markPrice, a_markBase, a_markHigh, a_nodeState, a_nodeCode, a_nodeExtra, a_nodePrice, a_nodeHeight, a_nodeHeld, a_frameArgs, a_frameLocals) x := gr_z0 hx h
theorem gn_pl1 {post : Int32 → Prop} {j : Nat} (hj : j < df) (hd : df ≤ 8) (h : post 1) : wpX_isPlace post (f_draftSlot, f_slotTokens, f_slotRoots, f_itemArgument, f_itemLeft, f_itemRight, f_itemChoice, f_nodeFresh, f_nodeBusy, f_nodeNumber, f_nodePartial, f_modeRead, f_modeDemand, f_modeEnter, f_modeGive, f_placeNodes, nI df, nI mt, nI D, nI mp, nI L, f_draftTarget, f_draftMade, f_result, f_price, f_peak, f_outcome, f_mode, f_nowA, f_nowB, f_items, f_marks, f_high, f_nodes, f_frames, a_slotUsed, a_slotArity, a_slotLocals, a_slotSize, a_tokenKind, a_tokenValue, a_tokenSpan, a_roots, a_itemSort, a_itemA, a_itemB, a_markNode, a_markPrice, a_markBase, a_markHigh, a_nodeState, a_nodeCode, a_nodeExtra, a_nodePrice, a_nodeHeight, a_nodeHeld, a_frameArgs, a_frameLocals) (nI j) := gr_z1 hj hd h
/-- the slot of d: one answer for both -/
theorem gn_slot (hd : df ≤ 8) (x : Int32) : ∃ r, (r = -1 ∨ r = -5 ∨ ∃ j, (j < df ∨ j = 8) ∧ r = nI j ∧ ¬ a_slotUsed j = 0) ∧ (∀ post : Int32 → Prop, post r → wpX_slotOf post (f_draftSlot, f_slotTokens, f_slotRoots, f_itemArgument, f_itemLeft, f_itemRight, f_itemChoice, f_nodeFresh, f_nodeBusy, f_nodeNumber, f_nodePartial, f_modeRead, f_modeDemand, f_modeEnter, f_modeGive, f_placeNodes, nI df, nI mt, nI D, nI mp, nI L, f_draftTarget, f_draftMade, f_result, f_price, f_peak, f_outcome, f_mode, f_nowA, f_nowB, f_items, f_marks, f_high, f_nodes, f_frames, a_slotUsed, a_slotArity, a_slotLocals, a_slotSize, a_tokenKind, a_tokenValue, a_tokenSpan, a_roots, a_itemSort, a_itemA, a_itemB, a_markNode, a_markPrice, a_markBase, a_markHigh, a_nodeState, a_nodeCode, a_nodeExtra, a_nodePrice, a_nodeHeight, a_nodeHeld, a_frameArgs, a_frameLocals) x) ∧ ∀ post : Int32 → Prop, post r → wpY_rowOf post (nI df, nI mt, nI D, nI mp, nI L, f_draftTarget, f_result, f_price, f_peak, g_items, g_frames, g_paid, g_high, g_ending, g_outcome, g_giving, g_value, g_expr, g_frame, b_kind, b_val, a_slotUsed, a_slotSize, a_slotArity, a_slotLocals, b_itemSort, b_itemA, b_itemB, b_itemFrame, b_argExpr, b_argFrame) x := by
  have key : ∀ j, j ≤ 8 → ∃ r, (r = -5 ∨ (r = nI j ∧ ¬ a_slotUsed j = 0)) ∧ (∀ post : Int32 → Prop, post r → wX_slotOf_23 post (nI j) f_draftSlot f_slotTokens f_slotRoots f_itemArgument f_itemLeft f_itemRight f_itemChoice f_nodeFresh f_nodeBusy f_nodeNumber f_nodePartial f_modeRead f_modeDemand f_modeEnter f_modeGive f_placeNodes (nI df) (nI mt) (nI D) (nI mp) (nI L) f_draftTarget f_draftMade f_result f_price f_peak f_outcome f_mode f_nowA f_nowB f_items f_marks f_high f_nodes f_frames a_slotUsed a_slotArity a_slotLocals a_slotSize a_tokenKind a_tokenValue a_tokenSpan a_roots a_itemSort a_itemA a_itemB a_markNode a_markPrice a_markBase a_markHigh a_nodeState a_nodeCode a_nodeExtra a_nodePrice a_nodeHeight a_nodeHeld a_frameArgs a_frameLocals) ∧ ∀ post : Int32 → Prop, post r → wY_rowOf_30 post (nI j) (nI df) (nI mt) (nI D) (nI mp) (nI L) f_draftTarget f_result f_price f_peak g_items g_frames g_paid g_high g_ending g_outcome g_giving g_value g_expr g_frame b_kind b_val a_slotUsed a_slotSize a_slotArity a_slotLocals b_itemSort b_itemA b_itemB b_itemFrame b_argExpr b_argFrame := by
    intro j hj
    have cl : (nI j).toNatClampNeg = j := nI_clamp (by omega)
    by_cases g : a_slotUsed j = 0
    · exact ⟨-5, Or.inl rfl, fun post hp => ⟨ga_in (by omega), br_t (by rw [cl]; exact g) hp⟩, fun post hp => ⟨ga_in (by omega), br_t (by rw [cl]; exact g) hp⟩⟩
    · exact ⟨nI j, Or.inr ⟨rfl, g⟩, fun post hp => ⟨ga_in (by omega), br_f (by rw [cl]; exact g) hp⟩, fun post hp => ⟨ga_in (by omega), br_f (by rw [cl]; exact g) hp⟩⟩
  by_cases g : x = -1
  · obtain ⟨r, r1, rX, rY⟩ := key 8 (by omega)
    refine ⟨r, ?_, fun post hp => br_t g (rX post hp), fun post hp => br_t g (br_t g (rY post hp))⟩
    rcases r1 with r1 | r1
    · exact Or.inr (Or.inl r1)
    · exact Or.inr (Or.inr ⟨8, Or.inr rfl, r1⟩)
  · rcases gr_ix x hd with hx | ⟨j, hj, rfl⟩
    · exact ⟨-1, Or.inl rfl, fun post hp => br_f g (gn_pl0 hx (br_t rfl hp)), fun post hp => br_f g (gr_y0 hx hp)⟩
    · obtain ⟨r, r1, rX, rY⟩ := key j (by omega)
      refine ⟨r, ?_, fun post hp => br_f g (gn_pl1 hj hd (br_f (by decide) (rX post hp))), fun post hp => br_f g (gr_y1 hj hd (br_f g (rY post hp)))⟩
      rcases r1 with r1 | r1
      · exact Or.inr (Or.inl r1)
      · exact Or.inr (Or.inr ⟨j, Or.inl hj, r1⟩)
theorem gn_neg : ¬ (0 : Int32) ≤ -1 ∧ ¬ (0 : Int32) ≤ -5 := by decide
/-- a getter over the slot -/
theorem gn_get (hd : df ≤ 8) (x : Int32) (a : Nat → Int32) : ∃ r, (∀ post : Int32 → Prop, post r → wpX_slotOf (fun r_1 => (((0 ≤ r_1 → (vp_in r_1 9 ∧ (post (a r_1.toNatClampNeg)))) ∧ (¬ 0 ≤ r_1 → (post r_1))))) (f_draftSlot, f_slotTokens, f_slotRoots, f_itemArgument, f_itemLeft, f_itemRight, f_itemChoice, f_nodeFresh, f_nodeBusy, f_nodeNumber, f_nodePartial, f_modeRead, f_modeDemand, f_modeEnter, f_modeGive, f_placeNodes, nI df, nI mt, nI D, nI mp, nI L, f_draftTarget, f_draftMade, f_result, f_price, f_peak, f_outcome, f_mode, f_nowA, f_nowB, f_items, f_marks, f_high, f_nodes, f_frames, a_slotUsed, a_slotArity, a_slotLocals, a_slotSize, a_tokenKind, a_tokenValue, a_tokenSpan, a_roots, a_itemSort, a_itemA, a_itemB, a_markNode, a_markPrice, a_markBase, a_markHigh, a_nodeState, a_nodeCode, a_nodeExtra, a_nodePrice, a_nodeHeight, a_nodeHeld, a_frameArgs, a_frameLocals) x) ∧ ∀ post : Int32 → Prop, post r → wpY_rowOf (fun r_1 => (((0 ≤ r_1 → (vp_in r_1 10 ∧ (post (a r_1.toNatClampNeg)))) ∧ (¬ 0 ≤ r_1 → (post r_1))))) (nI df, nI mt, nI D, nI mp, nI L, f_draftTarget, f_result, f_price, f_peak, g_items, g_frames, g_paid, g_high, g_ending, g_outcome, g_giving, g_value, g_expr, g_frame, b_kind, b_val, a_slotUsed, a_slotSize, a_slotArity, a_slotLocals, b_itemSort, b_itemA, b_itemB, b_itemFrame, b_argExpr, b_argFrame) x := by
  obtain ⟨r, r1, rX, rY⟩ := gn_slot (f_draftSlot := f_draftSlot) (f_slotTokens := f_slotTokens) (f_slotRoots := f_slotRoots) (f_itemArgument := f_itemArgument) (f_itemLeft := f_itemLeft) (f_itemRight := f_itemRight) (f_itemChoice := f_itemChoice) (f_nodeFresh := f_nodeFresh) (f_nodeBusy := f_nodeBusy) (f_nodeNumber := f_nodeNumber) (f_nodePartial := f_nodePartial) (f_modeRead := f_modeRead) (f_modeDemand := f_modeDemand) (f_modeEnter := f_modeEnter) (f_modeGive := f_modeGive) (f_placeNodes := f_placeNodes) (f_draftTarget := f_draftTarget) (f_draftMade := f_draftMade) (f_result := f_result) (f_price := f_price) (f_peak := f_peak) (f_outcome := f_outcome) (f_mode := f_mode) (f_nowA := f_nowA) (f_nowB := f_nowB) (f_items := f_items) (f_marks := f_marks) (f_high := f_high) (f_nodes := f_nodes) (f_frames := f_frames) (a_slotUsed := a_slotUsed) (a_slotArity := a_slotArity) (a_slotLocals := a_slotLocals) (a_slotSize := a_slotSize) (a_tokenKind := a_tokenKind) (a_tokenValue := a_tokenValue) (a_tokenSpan := a_tokenSpan) (a_roots := a_roots) (a_itemSort := a_itemSort) (a_itemA := a_itemA) (a_itemB := a_itemB) (a_markNode := a_markNode) (a_markPrice := a_markPrice) (a_markBase := a_markBase) (a_markHigh := a_markHigh) (a_nodeState := a_nodeState) (a_nodeCode := a_nodeCode) (a_nodeExtra := a_nodeExtra) (a_nodePrice := a_nodePrice) (a_nodeHeight := a_nodeHeight) (a_nodeHeld := a_nodeHeld) (a_frameArgs := a_frameArgs) (a_frameLocals := a_frameLocals) (g_items := g_items) (g_frames := g_frames) (g_paid := g_paid) (g_high := g_high) (g_ending := g_ending) (g_outcome := g_outcome) (g_giving := g_giving) (g_value := g_value) (g_expr := g_expr) (g_frame := g_frame) (b_kind := b_kind) (b_val := b_val) (b_itemSort := b_itemSort) (b_itemA := b_itemA) (b_itemB := b_itemB) (b_itemFrame := b_itemFrame) (b_argExpr := b_argExpr) (b_argFrame := b_argFrame) (df := df) (mt := mt) (D := D) (mp := mp) (L := L) hd x
  rcases r1 with rfl | rfl | ⟨j, j1, rfl, j3⟩
  · exact ⟨-1, fun post hp => rX _ (br_f gn_neg.1 hp), fun post hp => rY _ (br_f gn_neg.1 hp)⟩
  · exact ⟨-5, fun post hp => rX _ (br_f gn_neg.2 hp), fun post hp => rY _ (br_f gn_neg.2 hp)⟩
  · have cl : (nI j).toNatClampNeg = j := nI_clamp (by omega)
    exact ⟨a j, fun post hp => rX _ (br_t (nI_pos' (by omega)) ⟨ga_in (by omega), by rw [cl]; exact hp⟩), fun post hp => rY _ (br_t (nI_pos' (by omega)) ⟨ga_in (by omega), by rw [cl]; exact hp⟩)⟩
end V
section W
variable {k : Nat} {u : SX} {v : SY}
theorem i_vc_limit {k : Nat} {u : SX} {v : SY} (I : i_Rel k u v) (hk : k + 5 ≤ 2564) : wpX_limit (fun r => wpY_limit (fun r' => r' = r ∧ i_Rel (k + 5) u v) v) u := by
  refine gr_el (P := fun u v => wpX_limit (fun r => wpY_limit (fun r' => r' = r ∧ i_Rel (k + 5) u v) v) u) ?_ I
  intro f_draftSlot f_slotTokens f_slotRoots f_itemArgument f_itemLeft f_itemRight f_itemChoice f_nodeFresh f_nodeBusy f_nodeNumber f_nodePartial f_modeRead f_modeDemand f_modeEnter f_modeGive f_placeNodes f_draftTarget f_draftMade f_result f_price f_peak f_outcome f_mode f_nowA f_nowB f_items f_marks f_high f_nodes f_frames a_slotUsed a_slotArity a_slotLocals a_slotSize a_tokenKind a_tokenValue a_tokenSpan a_roots a_itemSort a_itemA a_itemB a_markNode a_markPrice a_markBase a_markHigh a_nodeState a_nodeCode a_nodeExtra a_nodePrice a_nodeHeight a_nodeHeld a_frameArgs a_frameLocals g_items g_frames g_paid g_high g_ending g_outcome g_giving g_value g_expr g_frame b_kind b_val b_itemSort b_itemA b_itemB b_itemFrame b_argExpr b_argFrame df mt D mp L hN hk hq
  exact And.intro rfl (gr_in hN hk hq)
theorem i_vc_result {k : Nat} {u : SX} {v : SY} (I : i_Rel k u v) (hk : k + 5 ≤ 2564) : wpX_result (fun r => wpY_result (fun r' => r' = r ∧ i_Rel (k + 5) u v) v) u := by
  refine gr_el (P := fun u v => wpX_result (fun r => wpY_result (fun r' => r' = r ∧ i_Rel (k + 5) u v) v) u) ?_ I
  intro f_draftSlot f_slotTokens f_slotRoots f_itemArgument f_itemLeft f_itemRight f_itemChoice f_nodeFresh f_nodeBusy f_nodeNumber f_nodePartial f_modeRead f_modeDemand f_modeEnter f_modeGive f_placeNodes f_draftTarget f_draftMade f_result f_price f_peak f_outcome f_mode f_nowA f_nowB f_items f_marks f_high f_nodes f_frames a_slotUsed a_slotArity a_slotLocals a_slotSize a_tokenKind a_tokenValue a_tokenSpan a_roots a_itemSort a_itemA a_itemB a_markNode a_markPrice a_markBase a_markHigh a_nodeState a_nodeCode a_nodeExtra a_nodePrice a_nodeHeight a_nodeHeld a_frameArgs a_frameLocals g_items g_frames g_paid g_high g_ending g_outcome g_giving g_value g_expr g_frame b_kind b_val b_itemSort b_itemA b_itemB b_itemFrame b_argExpr b_argFrame df mt D mp L hN hk hq
  exact And.intro rfl (gr_in hN hk hq)
theorem i_vc_price {k : Nat} {u : SX} {v : SY} (I : i_Rel k u v) (hk : k + 5 ≤ 2564) : wpX_price (fun r => wpY_price (fun r' => r' = r ∧ i_Rel (k + 5) u v) v) u := by
  refine gr_el (P := fun u v => wpX_price (fun r => wpY_price (fun r' => r' = r ∧ i_Rel (k + 5) u v) v) u) ?_ I
  intro f_draftSlot f_slotTokens f_slotRoots f_itemArgument f_itemLeft f_itemRight f_itemChoice f_nodeFresh f_nodeBusy f_nodeNumber f_nodePartial f_modeRead f_modeDemand f_modeEnter f_modeGive f_placeNodes f_draftTarget f_draftMade f_result f_price f_peak f_outcome f_mode f_nowA f_nowB f_items f_marks f_high f_nodes f_frames a_slotUsed a_slotArity a_slotLocals a_slotSize a_tokenKind a_tokenValue a_tokenSpan a_roots a_itemSort a_itemA a_itemB a_markNode a_markPrice a_markBase a_markHigh a_nodeState a_nodeCode a_nodeExtra a_nodePrice a_nodeHeight a_nodeHeld a_frameArgs a_frameLocals g_items g_frames g_paid g_high g_ending g_outcome g_giving g_value g_expr g_frame b_kind b_val b_itemSort b_itemA b_itemB b_itemFrame b_argExpr b_argFrame df mt D mp L hN hk hq
  exact And.intro rfl (gr_in hN hk hq)
theorem i_vc_peak {k : Nat} {u : SX} {v : SY} (I : i_Rel k u v) (hk : k + 5 ≤ 2564) : wpX_peak (fun r => wpY_peak (fun r' => r' = r ∧ i_Rel (k + 5) u v) v) u := by
  refine gr_el (P := fun u v => wpX_peak (fun r => wpY_peak (fun r' => r' = r ∧ i_Rel (k + 5) u v) v) u) ?_ I
  intro f_draftSlot f_slotTokens f_slotRoots f_itemArgument f_itemLeft f_itemRight f_itemChoice f_nodeFresh f_nodeBusy f_nodeNumber f_nodePartial f_modeRead f_modeDemand f_modeEnter f_modeGive f_placeNodes f_draftTarget f_draftMade f_result f_price f_peak f_outcome f_mode f_nowA f_nowB f_items f_marks f_high f_nodes f_frames a_slotUsed a_slotArity a_slotLocals a_slotSize a_tokenKind a_tokenValue a_tokenSpan a_roots a_itemSort a_itemA a_itemB a_markNode a_markPrice a_markBase a_markHigh a_nodeState a_nodeCode a_nodeExtra a_nodePrice a_nodeHeight a_nodeHeld a_frameArgs a_frameLocals g_items g_frames g_paid g_high g_ending g_outcome g_giving g_value g_expr g_frame b_kind b_val b_itemSort b_itemA b_itemB b_itemFrame b_argExpr b_argFrame df mt D mp L hN hk hq
  exact And.intro rfl (gr_in hN hk hq)
theorem i_vc_target {k : Nat} {u : SX} {v : SY} (I : i_Rel k u v) (hk : k + 5 ≤ 2564) : wpX_target (fun r => wpY_target (fun r' => r' = r ∧ i_Rel (k + 5) u v) v) u := by
  refine gr_el (P := fun u v => wpX_target (fun r => wpY_target (fun r' => r' = r ∧ i_Rel (k + 5) u v) v) u) ?_ I
  intro f_draftSlot f_slotTokens f_slotRoots f_itemArgument f_itemLeft f_itemRight f_itemChoice f_nodeFresh f_nodeBusy f_nodeNumber f_nodePartial f_modeRead f_modeDemand f_modeEnter f_modeGive f_placeNodes f_draftTarget f_draftMade f_result f_price f_peak f_outcome f_mode f_nowA f_nowB f_items f_marks f_high f_nodes f_frames a_slotUsed a_slotArity a_slotLocals a_slotSize a_tokenKind a_tokenValue a_tokenSpan a_roots a_itemSort a_itemA a_itemB a_markNode a_markPrice a_markBase a_markHigh a_nodeState a_nodeCode a_nodeExtra a_nodePrice a_nodeHeight a_nodeHeld a_frameArgs a_frameLocals g_items g_frames g_paid g_high g_ending g_outcome g_giving g_value g_expr g_frame b_kind b_val b_itemSort b_itemA b_itemB b_itemFrame b_argExpr b_argFrame df mt D mp L hN hk hq
  by_cases g : a_slotUsed 8 = 0
  · exact br_t g (br_t g ⟨rfl, gr_in hN hk hq⟩)
  · exact br_f g (br_f g ⟨rfl, gr_in hN hk hq⟩)
theorem i_vc_setLimit {k : Nat} {u : SX} {v : SY} (I : i_Rel k u v) (hk : k + 5 ≤ 2564) (v1 : Int32) : wpX_setLimit (fun r u' => wpY_setLimit (fun r' v' => r' = r ∧ i_Rel (k + 5) u' v') v v1) u v1 := by
  refine gr_el (P := fun u v => wpX_setLimit (fun r u' => wpY_setLimit (fun r' v' => r' = r ∧ i_Rel (k + 5) u' v') v v1) u v1) ?_ I
  intro f_draftSlot f_slotTokens f_slotRoots f_itemArgument f_itemLeft f_itemRight f_itemChoice f_nodeFresh f_nodeBusy f_nodeNumber f_nodePartial f_modeRead f_modeDemand f_modeEnter f_modeGive f_placeNodes f_draftTarget f_draftMade f_result f_price f_peak f_outcome f_mode f_nowA f_nowB f_items f_marks f_high f_nodes f_frames a_slotUsed a_slotArity a_slotLocals a_slotSize a_tokenKind a_tokenValue a_tokenSpan a_roots a_itemSort a_itemA a_itemB a_markNode a_markPrice a_markBase a_markHigh a_nodeState a_nodeCode a_nodeExtra a_nodePrice a_nodeHeight a_nodeHeld a_frameArgs a_frameLocals g_items g_frames g_paid g_high g_ending g_outcome g_giving g_value g_expr g_frame b_kind b_val b_itemSort b_itemA b_itemB b_itemFrame b_argExpr b_argFrame df mt D mp L hN hk hq
  obtain ⟨n1, n2, n3, n4, n5, n6, n7, n8, n9, n10⟩ := hN
  obtain ⟨a, a1, a2, aX, aY⟩ := gn_clamp v1 (lo := 1) (hi := mp) (by omega) (by omega)
  show wpX_setLimit (fun r u' => wpY_setLimit (fun r' v' => r' = r ∧ i_Rel (k + 5) u' v') (nI df, nI mt, nI D, nI mp, nI L, f_draftTarget, f_result, f_price, f_peak, g_items, g_frames, g_paid, g_high, g_ending, g_outcome, g_giving, g_value, g_expr, g_frame, b_kind, b_val, a_slotUsed, a_slotSize, a_slotArity, a_slotLocals, b_itemSort, b_itemA, b_itemB, b_itemFrame, b_argExpr, b_argFrame) v1) (f_draftSlot, f_slotTokens, f_slotRoots, f_itemArgument, f_itemLeft, f_itemRight, f_itemChoice, f_nodeFresh, f_nodeBusy, f_nodeNumber, f_nodePartial, f_modeRead, f_modeDemand, f_modeEnter, f_modeGive, f_placeNodes, nI df, nI mt, nI D, nI mp, nI L, f_draftTarget, f_draftMade, f_result, f_price, f_peak, f_outcome, f_mode, f_nowA, f_nowB, f_items, f_marks, f_high, f_nodes, f_frames, a_slotUsed, a_slotArity, a_slotLocals, a_slotSize, a_tokenKind, a_tokenValue, a_tokenSpan, a_roots, a_itemSort, a_itemA, a_itemB, a_markNode, a_markPrice, a_markBase, a_markHigh, a_nodeState, a_nodeCode, a_nodeExtra, a_nodePrice, a_nodeHeight, a_nodeHeld, a_frameArgs, a_frameLocals) v1
  unfold wpX_setLimit
  refine aX _ _ ?_
  show wpY_setLimit _ (nI df, nI mt, nI D, nI mp, nI L, f_draftTarget, f_result, f_price, f_peak, g_items, g_frames, g_paid, g_high, g_ending, g_outcome, g_giving, g_value, g_expr, g_frame, b_kind, b_val, a_slotUsed, a_slotSize, a_slotArity, a_slotLocals, b_itemSort, b_itemA, b_itemB, b_itemFrame, b_argExpr, b_argFrame) v1
  unfold wpY_setLimit
  refine aY _ _ ?_
  exact And.intro rfl (gr_in ⟨n1, n2, n3, n4, n5, n6, n7, n8, a1, a2⟩ hk hq)
theorem i_vc_arity {k : Nat} {u : SX} {v : SY} (I : i_Rel k u v) (hk : k + 5 ≤ 2564) (v1 : Int32) : wpX_arity (fun r => wpY_arity (fun r' => r' = r ∧ i_Rel (k + 5) u v) v v1) u v1 := by
  refine gr_el (P := fun u v => wpX_arity (fun r => wpY_arity (fun r' => r' = r ∧ i_Rel (k + 5) u v) v v1) u v1) ?_ I
  intro f_draftSlot f_slotTokens f_slotRoots f_itemArgument f_itemLeft f_itemRight f_itemChoice f_nodeFresh f_nodeBusy f_nodeNumber f_nodePartial f_modeRead f_modeDemand f_modeEnter f_modeGive f_placeNodes f_draftTarget f_draftMade f_result f_price f_peak f_outcome f_mode f_nowA f_nowB f_items f_marks f_high f_nodes f_frames a_slotUsed a_slotArity a_slotLocals a_slotSize a_tokenKind a_tokenValue a_tokenSpan a_roots a_itemSort a_itemA a_itemB a_markNode a_markPrice a_markBase a_markHigh a_nodeState a_nodeCode a_nodeExtra a_nodePrice a_nodeHeight a_nodeHeld a_frameArgs a_frameLocals g_items g_frames g_paid g_high g_ending g_outcome g_giving g_value g_expr g_frame b_kind b_val b_itemSort b_itemA b_itemB b_itemFrame b_argExpr b_argFrame df mt D mp L hN hk hq
  obtain ⟨r, rX, rY⟩ := gn_get (f_draftSlot := f_draftSlot) (f_slotTokens := f_slotTokens) (f_slotRoots := f_slotRoots) (f_itemArgument := f_itemArgument) (f_itemLeft := f_itemLeft) (f_itemRight := f_itemRight) (f_itemChoice := f_itemChoice) (f_nodeFresh := f_nodeFresh) (f_nodeBusy := f_nodeBusy) (f_nodeNumber := f_nodeNumber) (f_nodePartial := f_nodePartial) (f_modeRead := f_modeRead) (f_modeDemand := f_modeDemand) (f_modeEnter := f_modeEnter) (f_modeGive := f_modeGive) (f_placeNodes := f_placeNodes) (f_draftTarget := f_draftTarget) (f_draftMade := f_draftMade) (f_result := f_result) (f_price := f_price) (f_peak := f_peak) (f_outcome := f_outcome) (f_mode := f_mode) (f_nowA := f_nowA) (f_nowB := f_nowB) (f_items := f_items) (f_marks := f_marks) (f_high := f_high) (f_nodes := f_nodes) (f_frames := f_frames) (a_slotUsed := a_slotUsed) (a_slotArity := a_slotArity) (a_slotLocals := a_slotLocals) (a_slotSize := a_slotSize) (a_tokenKind := a_tokenKind) (a_tokenValue := a_tokenValue) (a_tokenSpan := a_tokenSpan) (a_roots := a_roots) (a_itemSort := a_itemSort) (a_itemA := a_itemA) (a_itemB := a_itemB) (a_markNode := a_markNode) (a_markPrice := a_markPrice) (a_markBase := a_markBase) (a_markHigh := a_markHigh) (a_nodeState := a_nodeState) (a_nodeCode := a_nodeCode) (a_nodeExtra := a_nodeExtra) (a_nodePrice := a_nodePrice) (a_nodeHeight := a_nodeHeight) (a_nodeHeld := a_nodeHeld) (a_frameArgs := a_frameArgs) (a_frameLocals := a_frameLocals) (g_items := g_items) (g_frames := g_frames) (g_paid := g_paid) (g_high := g_high) (g_ending := g_ending) (g_outcome := g_outcome) (g_giving := g_giving) (g_value := g_value) (g_expr := g_expr) (g_frame := g_frame) (b_kind := b_kind) (b_val := b_val) (b_itemSort := b_itemSort) (b_itemA := b_itemA) (b_itemB := b_itemB) (b_itemFrame := b_itemFrame) (b_argExpr := b_argExpr) (b_argFrame := b_argFrame) (df := df) (mt := mt) (D := D) (mp := mp) (L := L) hN.2.1 v1 a_slotArity
  exact rX (fun r => wpY_arity (fun r' => r' = r ∧ i_Rel (k + 5) (f_draftSlot, f_slotTokens, f_slotRoots, f_itemArgument, f_itemLeft, f_itemRight, f_itemChoice, f_nodeFresh, f_nodeBusy, f_nodeNumber, f_nodePartial, f_modeRead, f_modeDemand, f_modeEnter, f_modeGive, f_placeNodes, nI df, nI mt, nI D, nI mp, nI L, f_draftTarget, f_draftMade, f_result, f_price, f_peak, f_outcome, f_mode, f_nowA, f_nowB, f_items, f_marks, f_high, f_nodes, f_frames, a_slotUsed, a_slotArity, a_slotLocals, a_slotSize, a_tokenKind, a_tokenValue, a_tokenSpan, a_roots, a_itemSort, a_itemA, a_itemB, a_markNode, a_markPrice, a_markBase, a_markHigh, a_nodeState, a_nodeCode, a_nodeExtra, a_nodePrice, a_nodeHeight, a_nodeHeld, a_frameArgs, a_frameLocals) (nI df, nI mt, nI D, nI mp, nI L, f_draftTarget, f_result, f_price, f_peak, g_items, g_frames, g_paid, g_high, g_ending, g_outcome, g_giving, g_value, g_expr, g_frame, b_kind, b_val, a_slotUsed, a_slotSize, a_slotArity, a_slotLocals, b_itemSort, b_itemA, b_itemB, b_itemFrame, b_argExpr, b_argFrame)) (nI df, nI mt, nI D, nI mp, nI L, f_draftTarget, f_result, f_price, f_peak, g_items, g_frames, g_paid, g_high, g_ending, g_outcome, g_giving, g_value, g_expr, g_frame, b_kind, b_val, a_slotUsed, a_slotSize, a_slotArity, a_slotLocals, b_itemSort, b_itemA, b_itemB, b_itemFrame, b_argExpr, b_argFrame) v1) (rY (fun r' => r' = r ∧ i_Rel (k + 5) (f_draftSlot, f_slotTokens, f_slotRoots, f_itemArgument, f_itemLeft, f_itemRight, f_itemChoice, f_nodeFresh, f_nodeBusy, f_nodeNumber, f_nodePartial, f_modeRead, f_modeDemand, f_modeEnter, f_modeGive, f_placeNodes, nI df, nI mt, nI D, nI mp, nI L, f_draftTarget, f_draftMade, f_result, f_price, f_peak, f_outcome, f_mode, f_nowA, f_nowB, f_items, f_marks, f_high, f_nodes, f_frames, a_slotUsed, a_slotArity, a_slotLocals, a_slotSize, a_tokenKind, a_tokenValue, a_tokenSpan, a_roots, a_itemSort, a_itemA, a_itemB, a_markNode, a_markPrice, a_markBase, a_markHigh, a_nodeState, a_nodeCode, a_nodeExtra, a_nodePrice, a_nodeHeight, a_nodeHeld, a_frameArgs, a_frameLocals) (nI df, nI mt, nI D, nI mp, nI L, f_draftTarget, f_result, f_price, f_peak, g_items, g_frames, g_paid, g_high, g_ending, g_outcome, g_giving, g_value, g_expr, g_frame, b_kind, b_val, a_slotUsed, a_slotSize, a_slotArity, a_slotLocals, b_itemSort, b_itemA, b_itemB, b_itemFrame, b_argExpr, b_argFrame)) (And.intro rfl (gr_in hN hk hq)))
theorem i_vc_locals {k : Nat} {u : SX} {v : SY} (I : i_Rel k u v) (hk : k + 5 ≤ 2564) (v1 : Int32) : wpX_locals (fun r => wpY_locals (fun r' => r' = r ∧ i_Rel (k + 5) u v) v v1) u v1 := by
  refine gr_el (P := fun u v => wpX_locals (fun r => wpY_locals (fun r' => r' = r ∧ i_Rel (k + 5) u v) v v1) u v1) ?_ I
  intro f_draftSlot f_slotTokens f_slotRoots f_itemArgument f_itemLeft f_itemRight f_itemChoice f_nodeFresh f_nodeBusy f_nodeNumber f_nodePartial f_modeRead f_modeDemand f_modeEnter f_modeGive f_placeNodes f_draftTarget f_draftMade f_result f_price f_peak f_outcome f_mode f_nowA f_nowB f_items f_marks f_high f_nodes f_frames a_slotUsed a_slotArity a_slotLocals a_slotSize a_tokenKind a_tokenValue a_tokenSpan a_roots a_itemSort a_itemA a_itemB a_markNode a_markPrice a_markBase a_markHigh a_nodeState a_nodeCode a_nodeExtra a_nodePrice a_nodeHeight a_nodeHeld a_frameArgs a_frameLocals g_items g_frames g_paid g_high g_ending g_outcome g_giving g_value g_expr g_frame b_kind b_val b_itemSort b_itemA b_itemB b_itemFrame b_argExpr b_argFrame df mt D mp L hN hk hq
  obtain ⟨r, rX, rY⟩ := gn_get (f_draftSlot := f_draftSlot) (f_slotTokens := f_slotTokens) (f_slotRoots := f_slotRoots) (f_itemArgument := f_itemArgument) (f_itemLeft := f_itemLeft) (f_itemRight := f_itemRight) (f_itemChoice := f_itemChoice) (f_nodeFresh := f_nodeFresh) (f_nodeBusy := f_nodeBusy) (f_nodeNumber := f_nodeNumber) (f_nodePartial := f_nodePartial) (f_modeRead := f_modeRead) (f_modeDemand := f_modeDemand) (f_modeEnter := f_modeEnter) (f_modeGive := f_modeGive) (f_placeNodes := f_placeNodes) (f_draftTarget := f_draftTarget) (f_draftMade := f_draftMade) (f_result := f_result) (f_price := f_price) (f_peak := f_peak) (f_outcome := f_outcome) (f_mode := f_mode) (f_nowA := f_nowA) (f_nowB := f_nowB) (f_items := f_items) (f_marks := f_marks) (f_high := f_high) (f_nodes := f_nodes) (f_frames := f_frames) (a_slotUsed := a_slotUsed) (a_slotArity := a_slotArity) (a_slotLocals := a_slotLocals) (a_slotSize := a_slotSize) (a_tokenKind := a_tokenKind) (a_tokenValue := a_tokenValue) (a_tokenSpan := a_tokenSpan) (a_roots := a_roots) (a_itemSort := a_itemSort) (a_itemA := a_itemA) (a_itemB := a_itemB) (a_markNode := a_markNode) (a_markPrice := a_markPrice) (a_markBase := a_markBase) (a_markHigh := a_markHigh) (a_nodeState := a_nodeState) (a_nodeCode := a_nodeCode) (a_nodeExtra := a_nodeExtra) (a_nodePrice := a_nodePrice) (a_nodeHeight := a_nodeHeight) (a_nodeHeld := a_nodeHeld) (a_frameArgs := a_frameArgs) (a_frameLocals := a_frameLocals) (g_items := g_items) (g_frames := g_frames) (g_paid := g_paid) (g_high := g_high) (g_ending := g_ending) (g_outcome := g_outcome) (g_giving := g_giving) (g_value := g_value) (g_expr := g_expr) (g_frame := g_frame) (b_kind := b_kind) (b_val := b_val) (b_itemSort := b_itemSort) (b_itemA := b_itemA) (b_itemB := b_itemB) (b_itemFrame := b_itemFrame) (b_argExpr := b_argExpr) (b_argFrame := b_argFrame) (df := df) (mt := mt) (D := D) (mp := mp) (L := L) hN.2.1 v1 a_slotLocals
  exact rX (fun r => wpY_locals (fun r' => r' = r ∧ i_Rel (k + 5) (f_draftSlot, f_slotTokens, f_slotRoots, f_itemArgument, f_itemLeft, f_itemRight, f_itemChoice, f_nodeFresh, f_nodeBusy, f_nodeNumber, f_nodePartial, f_modeRead, f_modeDemand, f_modeEnter, f_modeGive, f_placeNodes, nI df, nI mt, nI D, nI mp, nI L, f_draftTarget, f_draftMade, f_result, f_price, f_peak, f_outcome, f_mode, f_nowA, f_nowB, f_items, f_marks, f_high, f_nodes, f_frames, a_slotUsed, a_slotArity, a_slotLocals, a_slotSize, a_tokenKind, a_tokenValue, a_tokenSpan, a_roots, a_itemSort, a_itemA, a_itemB, a_markNode, a_markPrice, a_markBase, a_markHigh, a_nodeState, a_nodeCode, a_nodeExtra, a_nodePrice, a_nodeHeight, a_nodeHeld, a_frameArgs, a_frameLocals) (nI df, nI mt, nI D, nI mp, nI L, f_draftTarget, f_result, f_price, f_peak, g_items, g_frames, g_paid, g_high, g_ending, g_outcome, g_giving, g_value, g_expr, g_frame, b_kind, b_val, a_slotUsed, a_slotSize, a_slotArity, a_slotLocals, b_itemSort, b_itemA, b_itemB, b_itemFrame, b_argExpr, b_argFrame)) (nI df, nI mt, nI D, nI mp, nI L, f_draftTarget, f_result, f_price, f_peak, g_items, g_frames, g_paid, g_high, g_ending, g_outcome, g_giving, g_value, g_expr, g_frame, b_kind, b_val, a_slotUsed, a_slotSize, a_slotArity, a_slotLocals, b_itemSort, b_itemA, b_itemB, b_itemFrame, b_argExpr, b_argFrame) v1) (rY (fun r' => r' = r ∧ i_Rel (k + 5) (f_draftSlot, f_slotTokens, f_slotRoots, f_itemArgument, f_itemLeft, f_itemRight, f_itemChoice, f_nodeFresh, f_nodeBusy, f_nodeNumber, f_nodePartial, f_modeRead, f_modeDemand, f_modeEnter, f_modeGive, f_placeNodes, nI df, nI mt, nI D, nI mp, nI L, f_draftTarget, f_draftMade, f_result, f_price, f_peak, f_outcome, f_mode, f_nowA, f_nowB, f_items, f_marks, f_high, f_nodes, f_frames, a_slotUsed, a_slotArity, a_slotLocals, a_slotSize, a_tokenKind, a_tokenValue, a_tokenSpan, a_roots, a_itemSort, a_itemA, a_itemB, a_markNode, a_markPrice, a_markBase, a_markHigh, a_nodeState, a_nodeCode, a_nodeExtra, a_nodePrice, a_nodeHeight, a_nodeHeld, a_frameArgs, a_frameLocals) (nI df, nI mt, nI D, nI mp, nI L, f_draftTarget, f_result, f_price, f_peak, g_items, g_frames, g_paid, g_high, g_ending, g_outcome, g_giving, g_value, g_expr, g_frame, b_kind, b_val, a_slotUsed, a_slotSize, a_slotArity, a_slotLocals, b_itemSort, b_itemA, b_itemB, b_itemFrame, b_argExpr, b_argFrame)) (And.intro rfl (gr_in hN hk hq)))
theorem i_vc_size {k : Nat} {u : SX} {v : SY} (I : i_Rel k u v) (hk : k + 5 ≤ 2564) (v1 : Int32) : wpX_size (fun r => wpY_size (fun r' => r' = r ∧ i_Rel (k + 5) u v) v v1) u v1 := by
  refine gr_el (P := fun u v => wpX_size (fun r => wpY_size (fun r' => r' = r ∧ i_Rel (k + 5) u v) v v1) u v1) ?_ I
  intro f_draftSlot f_slotTokens f_slotRoots f_itemArgument f_itemLeft f_itemRight f_itemChoice f_nodeFresh f_nodeBusy f_nodeNumber f_nodePartial f_modeRead f_modeDemand f_modeEnter f_modeGive f_placeNodes f_draftTarget f_draftMade f_result f_price f_peak f_outcome f_mode f_nowA f_nowB f_items f_marks f_high f_nodes f_frames a_slotUsed a_slotArity a_slotLocals a_slotSize a_tokenKind a_tokenValue a_tokenSpan a_roots a_itemSort a_itemA a_itemB a_markNode a_markPrice a_markBase a_markHigh a_nodeState a_nodeCode a_nodeExtra a_nodePrice a_nodeHeight a_nodeHeld a_frameArgs a_frameLocals g_items g_frames g_paid g_high g_ending g_outcome g_giving g_value g_expr g_frame b_kind b_val b_itemSort b_itemA b_itemB b_itemFrame b_argExpr b_argFrame df mt D mp L hN hk hq
  obtain ⟨r, rX, rY⟩ := gn_get (f_draftSlot := f_draftSlot) (f_slotTokens := f_slotTokens) (f_slotRoots := f_slotRoots) (f_itemArgument := f_itemArgument) (f_itemLeft := f_itemLeft) (f_itemRight := f_itemRight) (f_itemChoice := f_itemChoice) (f_nodeFresh := f_nodeFresh) (f_nodeBusy := f_nodeBusy) (f_nodeNumber := f_nodeNumber) (f_nodePartial := f_nodePartial) (f_modeRead := f_modeRead) (f_modeDemand := f_modeDemand) (f_modeEnter := f_modeEnter) (f_modeGive := f_modeGive) (f_placeNodes := f_placeNodes) (f_draftTarget := f_draftTarget) (f_draftMade := f_draftMade) (f_result := f_result) (f_price := f_price) (f_peak := f_peak) (f_outcome := f_outcome) (f_mode := f_mode) (f_nowA := f_nowA) (f_nowB := f_nowB) (f_items := f_items) (f_marks := f_marks) (f_high := f_high) (f_nodes := f_nodes) (f_frames := f_frames) (a_slotUsed := a_slotUsed) (a_slotArity := a_slotArity) (a_slotLocals := a_slotLocals) (a_slotSize := a_slotSize) (a_tokenKind := a_tokenKind) (a_tokenValue := a_tokenValue) (a_tokenSpan := a_tokenSpan) (a_roots := a_roots) (a_itemSort := a_itemSort) (a_itemA := a_itemA) (a_itemB := a_itemB) (a_markNode := a_markNode) (a_markPrice := a_markPrice) (a_markBase := a_markBase) (a_markHigh := a_markHigh) (a_nodeState := a_nodeState) (a_nodeCode := a_nodeCode) (a_nodeExtra := a_nodeExtra) (a_nodePrice := a_nodePrice) (a_nodeHeight := a_nodeHeight) (a_nodeHeld := a_nodeHeld) (a_frameArgs := a_frameArgs) (a_frameLocals := a_frameLocals) (g_items := g_items) (g_frames := g_frames) (g_paid := g_paid) (g_high := g_high) (g_ending := g_ending) (g_outcome := g_outcome) (g_giving := g_giving) (g_value := g_value) (g_expr := g_expr) (g_frame := g_frame) (b_kind := b_kind) (b_val := b_val) (b_itemSort := b_itemSort) (b_itemA := b_itemA) (b_itemB := b_itemB) (b_itemFrame := b_itemFrame) (b_argExpr := b_argExpr) (b_argFrame := b_argFrame) (df := df) (mt := mt) (D := D) (mp := mp) (L := L) hN.2.1 v1 a_slotSize
  exact rX (fun r => wpY_size (fun r' => r' = r ∧ i_Rel (k + 5) (f_draftSlot, f_slotTokens, f_slotRoots, f_itemArgument, f_itemLeft, f_itemRight, f_itemChoice, f_nodeFresh, f_nodeBusy, f_nodeNumber, f_nodePartial, f_modeRead, f_modeDemand, f_modeEnter, f_modeGive, f_placeNodes, nI df, nI mt, nI D, nI mp, nI L, f_draftTarget, f_draftMade, f_result, f_price, f_peak, f_outcome, f_mode, f_nowA, f_nowB, f_items, f_marks, f_high, f_nodes, f_frames, a_slotUsed, a_slotArity, a_slotLocals, a_slotSize, a_tokenKind, a_tokenValue, a_tokenSpan, a_roots, a_itemSort, a_itemA, a_itemB, a_markNode, a_markPrice, a_markBase, a_markHigh, a_nodeState, a_nodeCode, a_nodeExtra, a_nodePrice, a_nodeHeight, a_nodeHeld, a_frameArgs, a_frameLocals) (nI df, nI mt, nI D, nI mp, nI L, f_draftTarget, f_result, f_price, f_peak, g_items, g_frames, g_paid, g_high, g_ending, g_outcome, g_giving, g_value, g_expr, g_frame, b_kind, b_val, a_slotUsed, a_slotSize, a_slotArity, a_slotLocals, b_itemSort, b_itemA, b_itemB, b_itemFrame, b_argExpr, b_argFrame)) (nI df, nI mt, nI D, nI mp, nI L, f_draftTarget, f_result, f_price, f_peak, g_items, g_frames, g_paid, g_high, g_ending, g_outcome, g_giving, g_value, g_expr, g_frame, b_kind, b_val, a_slotUsed, a_slotSize, a_slotArity, a_slotLocals, b_itemSort, b_itemA, b_itemB, b_itemFrame, b_argExpr, b_argFrame) v1) (rY (fun r' => r' = r ∧ i_Rel (k + 5) (f_draftSlot, f_slotTokens, f_slotRoots, f_itemArgument, f_itemLeft, f_itemRight, f_itemChoice, f_nodeFresh, f_nodeBusy, f_nodeNumber, f_nodePartial, f_modeRead, f_modeDemand, f_modeEnter, f_modeGive, f_placeNodes, nI df, nI mt, nI D, nI mp, nI L, f_draftTarget, f_draftMade, f_result, f_price, f_peak, f_outcome, f_mode, f_nowA, f_nowB, f_items, f_marks, f_high, f_nodes, f_frames, a_slotUsed, a_slotArity, a_slotLocals, a_slotSize, a_tokenKind, a_tokenValue, a_tokenSpan, a_roots, a_itemSort, a_itemA, a_itemB, a_markNode, a_markPrice, a_markBase, a_markHigh, a_nodeState, a_nodeCode, a_nodeExtra, a_nodePrice, a_nodeHeight, a_nodeHeld, a_frameArgs, a_frameLocals) (nI df, nI mt, nI D, nI mp, nI L, f_draftTarget, f_result, f_price, f_peak, g_items, g_frames, g_paid, g_high, g_ending, g_outcome, g_giving, g_value, g_expr, g_frame, b_kind, b_val, a_slotUsed, a_slotSize, a_slotArity, a_slotLocals, b_itemSort, b_itemA, b_itemB, b_itemFrame, b_argExpr, b_argFrame)) (And.intro rfl (gr_in hN hk hq)))
end W
end GN
end
section
section GO
section V
variable {f_draftSlot f_slotTokens f_slotRoots f_itemArgument f_itemLeft f_itemRight f_itemChoice f_nodeFresh f_nodeBusy f_nodeNumber f_nodePartial f_modeRead f_modeDemand f_modeEnter f_modeGive f_placeNodes f_draftTarget f_draftMade f_result f_price f_peak f_outcome f_mode f_nowA f_nowB f_items f_marks f_high f_nodes f_frames : Int32} {a_slotUsed a_slotArity a_slotLocals a_slotSize a_tokenKind a_tokenValue a_tokenSpan a_roots a_itemSort a_itemA a_itemB a_markNode a_markPrice a_markBase a_markHigh a_nodeState a_nodeCode a_nodeExtra a_nodePrice a_nodeHeight a_nodeHeld a_frameArgs a_frameLocals : Nat → Int32} {g_items g_frames g_paid g_high g_ending g_outcome g_giving g_value g_expr g_frame : Int32} {b_kind b_val b_itemSort b_itemA b_itemB b_itemFrame b_argExpr b_argFrame : Nat → Int32} {df mt D mp L k : Nat} {v1 v2 v3 : Int32}
theorem go_row {j : Nat} (hN : gr_N df mt D mp L) (hq : gr_Q df mt f_draftTarget f_draftMade a_slotUsed a_slotArity a_slotLocals a_slotSize a_tokenKind a_tokenValue a_tokenSpan a_roots) (hj : j < df ∨ j = 8) (hu : ¬ a_slotUsed j = 0) : ∃ n a l, n ≤ 24 ∧ a_slotSize j = nI n ∧ gt_Row a_tokenKind a_tokenValue a_tokenSpan (24 * j) n a l df := by
  obtain ⟨n1, n2, n3, n4, _⟩ := hN
  rcases hj with hj | rfl
  · obtain ⟨n, a, l, q1, q2, q3, q4, q5, q6, hr, _⟩ := hq.1 j (by omega) hu
    exact ⟨n, a, l, q1, q4, hr⟩
  · obtain ⟨n, a, l, t, q1, q2, q3, q4, q5, q6, hr, _⟩ := hq.2 hu
    exact ⟨n, a, l, by omega, q4, hr⟩
theorem go_kind (hN : gr_N df mt D mp L) (hk : ∀ q, q < 216 → b_kind q = a_tokenKind q ∧ b_val q = a_tokenValue q) (hq : gr_Q df mt f_draftTarget f_draftMade a_slotUsed a_slotArity a_slotLocals a_slotSize a_tokenKind a_tokenValue a_tokenSpan a_roots) (v1 v2 : Int32) :
    ∃ r, (∀ post : Int32 → Prop, post r → wpX_kindAt post (f_draftSlot, f_slotTokens, f_slotRoots, f_itemArgument, f_itemLeft, f_itemRight, f_itemChoice, f_nodeFresh, f_nodeBusy, f_nodeNumber, f_nodePartial, f_modeRead, f_modeDemand, f_modeEnter, f_modeGive, f_placeNodes, nI df, nI mt, nI D, nI mp, nI L, f_draftTarget, f_draftMade, f_result, f_price, f_peak, f_outcome, f_mode, f_nowA, f_nowB, f_items, f_marks, f_high, f_nodes, f_frames, a_slotUsed, a_slotArity, a_slotLocals, a_slotSize, a_tokenKind, a_tokenValue, a_tokenSpan, a_roots, a_itemSort, a_itemA, a_itemB, a_markNode, a_markPrice, a_markBase, a_markHigh, a_nodeState, a_nodeCode, a_nodeExtra, a_nodePrice, a_nodeHeight, a_nodeHeld, a_frameArgs, a_frameLocals) v1 v2) ∧ ∀ post : Int32 → Prop, post r → wpY_kindAt post (nI df, nI mt, nI D, nI mp, nI L, f_draftTarget, f_result, f_price, f_peak, g_items, g_frames, g_paid, g_high, g_ending, g_outcome, g_giving, g_value, g_expr, g_frame, b_kind, b_val, a_slotUsed, a_slotSize, a_slotArity, a_slotLocals, b_itemSort, b_itemA, b_itemB, b_itemFrame, b_argExpr, b_argFrame) v1 v2 := by
  obtain ⟨r, r1, rX, rY⟩ := gn_slot (f_draftSlot := f_draftSlot) (f_slotTokens := f_slotTokens) (f_slotRoots := f_slotRoots) (f_itemArgument := f_itemArgument) (f_itemLeft := f_itemLeft) (f_itemRight := f_itemRight) (f_itemChoice := f_itemChoice) (f_nodeFresh := f_nodeFresh) (f_nodeBusy := f_nodeBusy) (f_nodeNumber := f_nodeNumber) (f_nodePartial := f_nodePartial) (f_modeRead := f_modeRead) (f_modeDemand := f_modeDemand) (f_modeEnter := f_modeEnter) (f_modeGive := f_modeGive) (f_placeNodes := f_placeNodes) (f_draftTarget := f_draftTarget) (f_draftMade := f_draftMade) (f_result := f_result) (f_price := f_price) (f_peak := f_peak) (f_outcome := f_outcome) (f_mode := f_mode) (f_nowA := f_nowA) (f_nowB := f_nowB) (f_items := f_items) (f_marks := f_marks) (f_high := f_high) (f_nodes := f_nodes) (f_frames := f_frames) (a_slotUsed := a_slotUsed) (a_slotArity := a_slotArity) (a_slotLocals := a_slotLocals) (a_slotSize := a_slotSize) (a_tokenKind := a_tokenKind) (a_tokenValue := a_tokenValue) (a_tokenSpan := a_tokenSpan) (a_roots := a_roots) (a_itemSort := a_itemSort) (a_itemA := a_itemA) (a_itemB := a_itemB) (a_markNode := a_markNode) (a_markPrice := a_markPrice) (a_markBase := a_markBase) (a_markHigh := a_markHigh) (a_nodeState := a_nodeState) (a_nodeCode := a_nodeCode) (a_nodeExtra := a_nodeExtra) (a_nodePrice := a_nodePrice) (a_nodeHeight := a_nodeHeight) (a_nodeHeld := a_nodeHeld) (a_frameArgs := a_frameArgs) (a_frameLocals := a_frameLocals) (g_items := g_items) (g_frames := g_frames) (g_paid := g_paid) (g_high := g_high) (g_ending := g_ending) (g_outcome := g_outcome) (g_giving := g_giving) (g_value := g_value) (g_expr := g_expr) (g_frame := g_frame) (b_kind := b_kind) (b_val := b_val) (b_itemSort := b_itemSort) (b_itemA := b_itemA) (b_itemB := b_itemB) (b_itemFrame := b_itemFrame) (b_argExpr := b_argExpr) (b_argFrame := b_argFrame) (df := df) (mt := mt) (D := D) (mp := mp) (L := L) hN.2.1 v1
  rcases r1 with rfl | rfl | ⟨j, j1, rfl, j3⟩
  · exact ⟨-1, fun post hp => by unfold wpX_kindAt; exact rX _ (br_f gn_neg.1 hp), fun post hp => by unfold wpY_kindAt; exact rY _ (br_f gn_neg.1 hp)⟩
  · exact ⟨-5, fun post hp => by unfold wpX_kindAt; exact rX _ (br_f gn_neg.2 hp), fun post hp => by unfold wpY_kindAt; exact rY _ (br_f gn_neg.2 hp)⟩
  · obtain ⟨n, a, l, q1, q2, hr⟩ := go_row hN hq j1 j3
    have hdf := hN.2.1
    have cl : (nI j).toNatClampNeg = j := nI_clamp (by omega)
    have p0 : (0 : Int32) ≤ nI j := nI_pos' (by omega)
    by_cases g : v2 < 0
    · exact ⟨-1, fun post hp => by unfold wpX_kindAt; exact rX _ (br_t p0 (br_t g hp)), fun post hp => by unfold wpY_kindAt; exact rY _ (br_t p0 (br_t g hp))⟩
    · obtain ⟨i, i1, rfl⟩ := nI_of g
      by_cases g2 : i < n
      · have c : nI i < a_slotSize (nI j).toNatClampNeg := by rw [cl, q2]; exact nI_lt g2 (by omega)
        have e4 : nI j * 24 + nI i = nI (24 * j + i) := by rw [ga_x24, nI_add, Nat.mul_comm]
        have c4 : (nI j * 24 + nI i).toNatClampNeg = 24 * j + i := pk_cl _ e4
        have ek := (hk (24 * j + i) (by omega)).1
        refine ⟨a_tokenKind (24 * j + i), fun post hp => ?_, fun post hp => ?_⟩
        · unfold wpX_kindAt
          exact rX _ (br_t p0 (br_f g ⟨ga_in (by omega), br_t c ⟨pk_in _ 216 (by omega) e4, by rw [c4]; exact hp⟩⟩))
        · unfold wpY_kindAt
          exact rY _ (br_t p0 (br_f g ⟨ga_in (by omega), br_t c ⟨pk_in _ 240 (by omega) e4, by rw [c4, ek]; exact hp⟩⟩))
      · have c : ¬ nI i < a_slotSize (nI j).toNatClampNeg := by rw [cl, q2]; exact nI_nlt (by omega) (by omega)
        refine ⟨-1, fun post hp => ?_, fun post hp => ?_⟩
        · unfold wpX_kindAt
          exact rX _ (br_t p0 (br_f g ⟨ga_in (by omega), br_f c hp⟩))
        · unfold wpY_kindAt
          exact rY _ (br_t p0 (br_f g ⟨ga_in (by omega), br_f c hp⟩))
theorem go_val (hN : gr_N df mt D mp L) (hk : ∀ q, q < 216 → b_kind q = a_tokenKind q ∧ b_val q = a_tokenValue q) (hq : gr_Q df mt f_draftTarget f_draftMade a_slotUsed a_slotArity a_slotLocals a_slotSize a_tokenKind a_tokenValue a_tokenSpan a_roots) (v1 v2 : Int32) :
    ∃ r, (∀ post : Int32 → Prop, post r → wpX_valueAt post (f_draftSlot, f_slotTokens, f_slotRoots, f_itemArgument, f_itemLeft, f_itemRight, f_itemChoice, f_nodeFresh, f_nodeBusy, f_nodeNumber, f_nodePartial, f_modeRead, f_modeDemand, f_modeEnter, f_modeGive, f_placeNodes, nI df, nI mt, nI D, nI mp, nI L, f_draftTarget, f_draftMade, f_result, f_price, f_peak, f_outcome, f_mode, f_nowA, f_nowB, f_items, f_marks, f_high, f_nodes, f_frames, a_slotUsed, a_slotArity, a_slotLocals, a_slotSize, a_tokenKind, a_tokenValue, a_tokenSpan, a_roots, a_itemSort, a_itemA, a_itemB, a_markNode, a_markPrice, a_markBase, a_markHigh, a_nodeState, a_nodeCode, a_nodeExtra, a_nodePrice, a_nodeHeight, a_nodeHeld, a_frameArgs, a_frameLocals) v1 v2) ∧ ∀ post : Int32 → Prop, post r → wpY_valueAt post (nI df, nI mt, nI D, nI mp, nI L, f_draftTarget, f_result, f_price, f_peak, g_items, g_frames, g_paid, g_high, g_ending, g_outcome, g_giving, g_value, g_expr, g_frame, b_kind, b_val, a_slotUsed, a_slotSize, a_slotArity, a_slotLocals, b_itemSort, b_itemA, b_itemB, b_itemFrame, b_argExpr, b_argFrame) v1 v2 := by
  obtain ⟨r, r1, rX, rY⟩ := gn_slot (f_draftSlot := f_draftSlot) (f_slotTokens := f_slotTokens) (f_slotRoots := f_slotRoots) (f_itemArgument := f_itemArgument) (f_itemLeft := f_itemLeft) (f_itemRight := f_itemRight) (f_itemChoice := f_itemChoice) (f_nodeFresh := f_nodeFresh) (f_nodeBusy := f_nodeBusy) (f_nodeNumber := f_nodeNumber) (f_nodePartial := f_nodePartial) (f_modeRead := f_modeRead) (f_modeDemand := f_modeDemand) (f_modeEnter := f_modeEnter) (f_modeGive := f_modeGive) (f_placeNodes := f_placeNodes) (f_draftTarget := f_draftTarget) (f_draftMade := f_draftMade) (f_result := f_result) (f_price := f_price) (f_peak := f_peak) (f_outcome := f_outcome) (f_mode := f_mode) (f_nowA := f_nowA) (f_nowB := f_nowB) (f_items := f_items) (f_marks := f_marks) (f_high := f_high) (f_nodes := f_nodes) (f_frames := f_frames) (a_slotUsed := a_slotUsed) (a_slotArity := a_slotArity) (a_slotLocals := a_slotLocals) (a_slotSize := a_slotSize) (a_tokenKind := a_tokenKind) (a_tokenValue := a_tokenValue) (a_tokenSpan := a_tokenSpan) (a_roots := a_roots) (a_itemSort := a_itemSort) (a_itemA := a_itemA) (a_itemB := a_itemB) (a_markNode := a_markNode) (a_markPrice := a_markPrice) (a_markBase := a_markBase) (a_markHigh := a_markHigh) (a_nodeState := a_nodeState) (a_nodeCode := a_nodeCode) (a_nodeExtra := a_nodeExtra) (a_nodePrice := a_nodePrice) (a_nodeHeight := a_nodeHeight) (a_nodeHeld := a_nodeHeld) (a_frameArgs := a_frameArgs) (a_frameLocals := a_frameLocals) (g_items := g_items) (g_frames := g_frames) (g_paid := g_paid) (g_high := g_high) (g_ending := g_ending) (g_outcome := g_outcome) (g_giving := g_giving) (g_value := g_value) (g_expr := g_expr) (g_frame := g_frame) (b_kind := b_kind) (b_val := b_val) (b_itemSort := b_itemSort) (b_itemA := b_itemA) (b_itemB := b_itemB) (b_itemFrame := b_itemFrame) (b_argExpr := b_argExpr) (b_argFrame := b_argFrame) (df := df) (mt := mt) (D := D) (mp := mp) (L := L) hN.2.1 v1
  rcases r1 with rfl | rfl | ⟨j, j1, rfl, j3⟩
  · exact ⟨0, fun post hp => by unfold wpX_valueAt; exact rX _ (br_f gn_neg.1 hp), fun post hp => by unfold wpY_valueAt wpY_kindAt; exact rY _ (br_f gn_neg.1 (br_f gn_neg.1 hp))⟩
  · exact ⟨0, fun post hp => by unfold wpX_valueAt; exact rX _ (br_f gn_neg.2 hp), fun post hp => by unfold wpY_valueAt wpY_kindAt; exact rY _ (br_f gn_neg.2 (br_f gn_neg.2 hp))⟩
  · obtain ⟨n, a, l, q1, q2, hr⟩ := go_row hN hq j1 j3
    have hdf := hN.2.1
    have cl : (nI j).toNatClampNeg = j := nI_clamp (by omega)
    have p0 : (0 : Int32) ≤ nI j := nI_pos' (by omega)
    by_cases g : v2 < 0
    · exact ⟨0, fun post hp => by unfold wpX_valueAt; exact rX _ (br_t p0 (br_t g hp)), fun post hp => by unfold wpY_valueAt wpY_kindAt; exact rY _ (br_t p0 (br_t g (br_f gn_neg.1 hp)))⟩
    · obtain ⟨i, i1, rfl⟩ := nI_of g
      by_cases g2 : i < n
      · have c : nI i < a_slotSize (nI j).toNatClampNeg := by rw [cl, q2]; exact nI_lt g2 (by omega)
        have e4 : nI j * 24 + nI i = nI (24 * j + i) := by rw [ga_x24, nI_add, Nat.mul_comm]
        have c4 : (nI j * 24 + nI i).toNatClampNeg = 24 * j + i := pk_cl _ e4
        obtain ⟨ek, ev⟩ := hk (24 * j + i) (by omega)
        obtain ⟨⟨kk, k1, k2, k3⟩, _⟩ := hr i g2
        have pk0 : (0 : Int32) ≤ a_tokenKind (24 * j + i) := by rw [k3]; exact nI_pos' (by omega)
        refine ⟨a_tokenValue (24 * j + i), fun post hp => ?_, fun post hp => ?_⟩
        · unfold wpX_valueAt
          exact rX _ (br_t p0 (br_f g ⟨ga_in (by omega), br_t c ⟨pk_in _ 216 (by omega) e4, by rw [c4]; exact hp⟩⟩))
        · unfold wpY_valueAt wpY_kindAt
          refine rY _ (br_t p0 (br_f g ⟨ga_in (by omega), br_t c ⟨pk_in _ 240 (by omega) e4, ?_⟩⟩))
          rw [c4, ek]
          exact br_t pk0 (rY _ ⟨pk_in _ 240 (by omega) e4, by rw [c4, ev]; exact hp⟩)
      · have c : ¬ nI i < a_slotSize (nI j).toNatClampNeg := by rw [cl, q2]; exact nI_nlt (by omega) (by omega)
        refine ⟨0, fun post hp => ?_, fun post hp => ?_⟩
        · unfold wpX_valueAt
          exact rX _ (br_t p0 (br_f g ⟨ga_in (by omega), br_f c hp⟩))
        · unfold wpY_valueAt wpY_kindAt
          exact rY _ (br_t p0 (br_f g ⟨ga_in (by omega), br_f c (br_f gn_neg.1 hp)⟩))
theorem go_Qu {dt dm : Int32} {us us' ar ar' lc lc' sz sz' kd vl sp rt : Nat → Int32} (h : gr_Q df mt dt dm us ar lc sz kd vl sp rt) (hu : ∀ d, d < 8 → ¬ us' d = 0 → ¬ us d = 0) (h1 : ∀ d, d < 8 → ar' d = ar d ∧ lc' d = lc d ∧ sz' d = sz d) {dt' dm' : Int32} (h8 : ¬ us' 8 = 0 → gr_DR ar' lc' sz' kd vl sp df mt dt' dm') : gr_Q df mt dt' dm' us' ar' lc' sz' kd vl sp rt :=
  ⟨fun d hd hn => gr_SL_cg (h1 d hd) (fun q _ _ => ⟨rfl, rfl, rfl⟩) (fun q _ _ => rfl) (h.1 d hd (hu d hd hn)), h8⟩
end V
section W
theorem i_vc_kindAt {k : Nat} {u : SX} {v : SY} (I : i_Rel k u v) (hk : k + 5 ≤ 2564) (v1 : Int32) (v2 : Int32) : wpX_kindAt (fun r => wpY_kindAt (fun r' => r' = r ∧ i_Rel (k + 5) u v) v v1 v2) u v1 v2 := by
  refine gr_el (P := fun u v => wpX_kindAt (fun r => wpY_kindAt (fun r' => r' = r ∧ i_Rel (k + 5) u v) v v1 v2) u v1 v2) ?_ I
  intro f_draftSlot f_slotTokens f_slotRoots f_itemArgument f_itemLeft f_itemRight f_itemChoice f_nodeFresh f_nodeBusy f_nodeNumber f_nodePartial f_modeRead f_modeDemand f_modeEnter f_modeGive f_placeNodes f_draftTarget f_draftMade f_result f_price f_peak f_outcome f_mode f_nowA f_nowB f_items f_marks f_high f_nodes f_frames a_slotUsed a_slotArity a_slotLocals a_slotSize a_tokenKind a_tokenValue a_tokenSpan a_roots a_itemSort a_itemA a_itemB a_markNode a_markPrice a_markBase a_markHigh a_nodeState a_nodeCode a_nodeExtra a_nodePrice a_nodeHeight a_nodeHeld a_frameArgs a_frameLocals g_items g_frames g_paid g_high g_ending g_outcome g_giving g_value g_expr g_frame b_kind b_val b_itemSort b_itemA b_itemB b_itemFrame b_argExpr b_argFrame df mt D mp L hN hk hq
  obtain ⟨r, rX, rY⟩ := go_kind (f_draftSlot := f_draftSlot) (f_slotTokens := f_slotTokens) (f_slotRoots := f_slotRoots) (f_itemArgument := f_itemArgument) (f_itemLeft := f_itemLeft) (f_itemRight := f_itemRight) (f_itemChoice := f_itemChoice) (f_nodeFresh := f_nodeFresh) (f_nodeBusy := f_nodeBusy) (f_nodeNumber := f_nodeNumber) (f_nodePartial := f_nodePartial) (f_modeRead := f_modeRead) (f_modeDemand := f_modeDemand) (f_modeEnter := f_modeEnter) (f_modeGive := f_modeGive) (f_placeNodes := f_placeNodes) (f_draftTarget := f_draftTarget) (f_draftMade := f_draftMade) (f_result := f_result) (f_price := f_price) (f_peak := f_peak) (f_outcome := f_outcome) (f_mode := f_mode) (f_nowA := f_nowA) (f_nowB := f_nowB) (f_items := f_items) (f_marks := f_marks) (f_high := f_high) (f_nodes := f_nodes) (f_frames := f_frames) (a_slotUsed := a_slotUsed) (a_slotArity := a_slotArity) (a_slotLocals := a_slotLocals) (a_slotSize := a_slotSize) (a_tokenKind := a_tokenKind) (a_tokenValue := a_tokenValue) (a_tokenSpan := a_tokenSpan) (a_roots := a_roots) (a_itemSort := a_itemSort) (a_itemA := a_itemA) (a_itemB := a_itemB) (a_markNode := a_markNode) (a_markPrice := a_markPrice) (a_markBase := a_markBase) (a_markHigh := a_markHigh) (a_nodeState := a_nodeState) (a_nodeCode := a_nodeCode) (a_nodeExtra := a_nodeExtra) (a_nodePrice := a_nodePrice) (a_nodeHeight := a_nodeHeight) (a_nodeHeld := a_nodeHeld) (a_frameArgs := a_frameArgs) (a_frameLocals := a_frameLocals) (g_items := g_items) (g_frames := g_frames) (g_paid := g_paid) (g_high := g_high) (g_ending := g_ending) (g_outcome := g_outcome) (g_giving := g_giving) (g_value := g_value) (g_expr := g_expr) (g_frame := g_frame) (b_kind := b_kind) (b_val := b_val) (b_itemSort := b_itemSort) (b_itemA := b_itemA) (b_itemB := b_itemB) (b_itemFrame := b_itemFrame) (b_argExpr := b_argExpr) (b_argFrame := b_argFrame) (df := df) (mt := mt) (D := D) (mp := mp) (L := L) hN hk hq v1 v2
  exact rX (fun r => wpY_kindAt (fun r' => r' = r ∧ i_Rel (k + 5) (f_draftSlot, f_slotTokens, f_slotRoots, f_itemArgument, f_itemLeft, f_itemRight, f_itemChoice, f_nodeFresh, f_nodeBusy, f_nodeNumber, f_nodePartial, f_modeRead, f_modeDemand, f_modeEnter, f_modeGive, f_placeNodes, nI df, nI mt, nI D, nI mp, nI L, f_draftTarget, f_draftMade, f_result, f_price, f_peak, f_outcome, f_mode, f_nowA, f_nowB, f_items, f_marks, f_high, f_nodes, f_frames, a_slotUsed, a_slotArity, a_slotLocals, a_slotSize, a_tokenKind, a_tokenValue, a_tokenSpan, a_roots, a_itemSort, a_itemA, a_itemB, a_markNode, a_markPrice, a_markBase, a_markHigh, a_nodeState, a_nodeCode, a_nodeExtra, a_nodePrice, a_nodeHeight, a_nodeHeld, a_frameArgs, a_frameLocals) (nI df, nI mt, nI D, nI mp, nI L, f_draftTarget, f_result, f_price, f_peak, g_items, g_frames, g_paid, g_high, g_ending, g_outcome, g_giving, g_value, g_expr, g_frame, b_kind, b_val, a_slotUsed, a_slotSize, a_slotArity, a_slotLocals, b_itemSort, b_itemA, b_itemB, b_itemFrame, b_argExpr, b_argFrame)) (nI df, nI mt, nI D, nI mp, nI L, f_draftTarget, f_result, f_price, f_peak, g_items, g_frames, g_paid, g_high, g_ending, g_outcome, g_giving, g_value, g_expr, g_frame, b_kind, b_val, a_slotUsed, a_slotSize, a_slotArity, a_slotLocals, b_itemSort, b_itemA, b_itemB, b_itemFrame, b_argExpr, b_argFrame) v1 v2) (rY (fun r' => r' = r ∧ i_Rel (k + 5) (f_draftSlot, f_slotTokens, f_slotRoots, f_itemArgument, f_itemLeft, f_itemRight, f_itemChoice, f_nodeFresh, f_nodeBusy, f_nodeNumber, f_nodePartial, f_modeRead, f_modeDemand, f_modeEnter, f_modeGive, f_placeNodes, nI df, nI mt, nI D, nI mp, nI L, f_draftTarget, f_draftMade, f_result, f_price, f_peak, f_outcome, f_mode, f_nowA, f_nowB, f_items, f_marks, f_high, f_nodes, f_frames, a_slotUsed, a_slotArity, a_slotLocals, a_slotSize, a_tokenKind, a_tokenValue, a_tokenSpan, a_roots, a_itemSort, a_itemA, a_itemB, a_markNode, a_markPrice, a_markBase, a_markHigh, a_nodeState, a_nodeCode, a_nodeExtra, a_nodePrice, a_nodeHeight, a_nodeHeld, a_frameArgs, a_frameLocals) (nI df, nI mt, nI D, nI mp, nI L, f_draftTarget, f_result, f_price, f_peak, g_items, g_frames, g_paid, g_high, g_ending, g_outcome, g_giving, g_value, g_expr, g_frame, b_kind, b_val, a_slotUsed, a_slotSize, a_slotArity, a_slotLocals, b_itemSort, b_itemA, b_itemB, b_itemFrame, b_argExpr, b_argFrame)) (And.intro rfl (gr_in hN hk hq)))
theorem i_vc_valueAt {k : Nat} {u : SX} {v : SY} (I : i_Rel k u v) (hk : k + 5 ≤ 2564) (v1 : Int32) (v2 : Int32) : wpX_valueAt (fun r => wpY_valueAt (fun r' => r' = r ∧ i_Rel (k + 5) u v) v v1 v2) u v1 v2 := by
  refine gr_el (P := fun u v => wpX_valueAt (fun r => wpY_valueAt (fun r' => r' = r ∧ i_Rel (k + 5) u v) v v1 v2) u v1 v2) ?_ I
  intro f_draftSlot f_slotTokens f_slotRoots f_itemArgument f_itemLeft f_itemRight f_itemChoice f_nodeFresh f_nodeBusy f_nodeNumber f_nodePartial f_modeRead f_modeDemand f_modeEnter f_modeGive f_placeNodes f_draftTarget f_draftMade f_result f_price f_peak f_outcome f_mode f_nowA f_nowB f_items f_marks f_high f_nodes f_frames a_slotUsed a_slotArity a_slotLocals a_slotSize a_tokenKind a_tokenValue a_tokenSpan a_roots a_itemSort a_itemA a_itemB a_markNode a_markPrice a_markBase a_markHigh a_nodeState a_nodeCode a_nodeExtra a_nodePrice a_nodeHeight a_nodeHeld a_frameArgs a_frameLocals g_items g_frames g_paid g_high g_ending g_outcome g_giving g_value g_expr g_frame b_kind b_val b_itemSort b_itemA b_itemB b_itemFrame b_argExpr b_argFrame df mt D mp L hN hk hq
  obtain ⟨r, rX, rY⟩ := go_val (f_draftSlot := f_draftSlot) (f_slotTokens := f_slotTokens) (f_slotRoots := f_slotRoots) (f_itemArgument := f_itemArgument) (f_itemLeft := f_itemLeft) (f_itemRight := f_itemRight) (f_itemChoice := f_itemChoice) (f_nodeFresh := f_nodeFresh) (f_nodeBusy := f_nodeBusy) (f_nodeNumber := f_nodeNumber) (f_nodePartial := f_nodePartial) (f_modeRead := f_modeRead) (f_modeDemand := f_modeDemand) (f_modeEnter := f_modeEnter) (f_modeGive := f_modeGive) (f_placeNodes := f_placeNodes) (f_draftTarget := f_draftTarget) (f_draftMade := f_draftMade) (f_result := f_result) (f_price := f_price) (f_peak := f_peak) (f_outcome := f_outcome) (f_mode := f_mode) (f_nowA := f_nowA) (f_nowB := f_nowB) (f_items := f_items) (f_marks := f_marks) (f_high := f_high) (f_nodes := f_nodes) (f_frames := f_frames) (a_slotUsed := a_slotUsed) (a_slotArity := a_slotArity) (a_slotLocals := a_slotLocals) (a_slotSize := a_slotSize) (a_tokenKind := a_tokenKind) (a_tokenValue := a_tokenValue) (a_tokenSpan := a_tokenSpan) (a_roots := a_roots) (a_itemSort := a_itemSort) (a_itemA := a_itemA) (a_itemB := a_itemB) (a_markNode := a_markNode) (a_markPrice := a_markPrice) (a_markBase := a_markBase) (a_markHigh := a_markHigh) (a_nodeState := a_nodeState) (a_nodeCode := a_nodeCode) (a_nodeExtra := a_nodeExtra) (a_nodePrice := a_nodePrice) (a_nodeHeight := a_nodeHeight) (a_nodeHeld := a_nodeHeld) (a_frameArgs := a_frameArgs) (a_frameLocals := a_frameLocals) (g_items := g_items) (g_frames := g_frames) (g_paid := g_paid) (g_high := g_high) (g_ending := g_ending) (g_outcome := g_outcome) (g_giving := g_giving) (g_value := g_value) (g_expr := g_expr) (g_frame := g_frame) (b_kind := b_kind) (b_val := b_val) (b_itemSort := b_itemSort) (b_itemA := b_itemA) (b_itemB := b_itemB) (b_itemFrame := b_itemFrame) (b_argExpr := b_argExpr) (b_argFrame := b_argFrame) (df := df) (mt := mt) (D := D) (mp := mp) (L := L) hN hk hq v1 v2
  exact rX (fun r => wpY_valueAt (fun r' => r' = r ∧ i_Rel (k + 5) (f_draftSlot, f_slotTokens, f_slotRoots, f_itemArgument, f_itemLeft, f_itemRight, f_itemChoice, f_nodeFresh, f_nodeBusy, f_nodeNumber, f_nodePartial, f_modeRead, f_modeDemand, f_modeEnter, f_modeGive, f_placeNodes, nI df, nI mt, nI D, nI mp, nI L, f_draftTarget, f_draftMade, f_result, f_price, f_peak, f_outcome, f_mode, f_nowA, f_nowB, f_items, f_marks, f_high, f_nodes, f_frames, a_slotUsed, a_slotArity, a_slotLocals, a_slotSize, a_tokenKind, a_tokenValue, a_tokenSpan, a_roots, a_itemSort, a_itemA, a_itemB, a_markNode, a_markPrice, a_markBase, a_markHigh, a_nodeState, a_nodeCode, a_nodeExtra, a_nodePrice, a_nodeHeight, a_nodeHeld, a_frameArgs, a_frameLocals) (nI df, nI mt, nI D, nI mp, nI L, f_draftTarget, f_result, f_price, f_peak, g_items, g_frames, g_paid, g_high, g_ending, g_outcome, g_giving, g_value, g_expr, g_frame, b_kind, b_val, a_slotUsed, a_slotSize, a_slotArity, a_slotLocals, b_itemSort, b_itemA, b_itemB, b_itemFrame, b_argExpr, b_argFrame)) (nI df, nI mt, nI D, nI mp, nI L, f_draftTarget, f_result, f_price, f_peak, g_items, g_frames, g_paid, g_high, g_ending, g_outcome, g_giving, g_value, g_expr, g_frame, b_kind, b_val, a_slotUsed, a_slotSize, a_slotArity, a_slotLocals, b_itemSort, b_itemA, b_itemB, b_itemFrame, b_argExpr, b_argFrame) v1 v2) (rY (fun r' => r' = r ∧ i_Rel (k + 5) (f_draftSlot, f_slotTokens, f_slotRoots, f_itemArgument, f_itemLeft, f_itemRight, f_itemChoice, f_nodeFresh, f_nodeBusy, f_nodeNumber, f_nodePartial, f_modeRead, f_modeDemand, f_modeEnter, f_modeGive, f_placeNodes, nI df, nI mt, nI D, nI mp, nI L, f_draftTarget, f_draftMade, f_result, f_price, f_peak, f_outcome, f_mode, f_nowA, f_nowB, f_items, f_marks, f_high, f_nodes, f_frames, a_slotUsed, a_slotArity, a_slotLocals, a_slotSize, a_tokenKind, a_tokenValue, a_tokenSpan, a_roots, a_itemSort, a_itemA, a_itemB, a_markNode, a_markPrice, a_markBase, a_markHigh, a_nodeState, a_nodeCode, a_nodeExtra, a_nodePrice, a_nodeHeight, a_nodeHeld, a_frameArgs, a_frameLocals) (nI df, nI mt, nI D, nI mp, nI L, f_draftTarget, f_result, f_price, f_peak, g_items, g_frames, g_paid, g_high, g_ending, g_outcome, g_giving, g_value, g_expr, g_frame, b_kind, b_val, a_slotUsed, a_slotSize, a_slotArity, a_slotLocals, b_itemSort, b_itemA, b_itemB, b_itemFrame, b_argExpr, b_argFrame)) (And.intro rfl (gr_in hN hk hq)))
theorem i_vc_erase {k : Nat} {u : SX} {v : SY} (I : i_Rel k u v) (hk : k + 5 ≤ 2564) (v1 : Int32) : wpX_erase (fun r u' => wpY_erase (fun r' v' => r' = r ∧ i_Rel (k + 5) u' v') v v1) u v1 := by
  refine gr_el (P := fun u v => wpX_erase (fun r u' => wpY_erase (fun r' v' => r' = r ∧ i_Rel (k + 5) u' v') v v1) u v1) ?_ I
  intro f_draftSlot f_slotTokens f_slotRoots f_itemArgument f_itemLeft f_itemRight f_itemChoice f_nodeFresh f_nodeBusy f_nodeNumber f_nodePartial f_modeRead f_modeDemand f_modeEnter f_modeGive f_placeNodes f_draftTarget f_draftMade f_result f_price f_peak f_outcome f_mode f_nowA f_nowB f_items f_marks f_high f_nodes f_frames a_slotUsed a_slotArity a_slotLocals a_slotSize a_tokenKind a_tokenValue a_tokenSpan a_roots a_itemSort a_itemA a_itemB a_markNode a_markPrice a_markBase a_markHigh a_nodeState a_nodeCode a_nodeExtra a_nodePrice a_nodeHeight a_nodeHeld a_frameArgs a_frameLocals g_items g_frames g_paid g_high g_ending g_outcome g_giving g_value g_expr g_frame b_kind b_val b_itemSort b_itemA b_itemB b_itemFrame b_argExpr b_argFrame df mt D mp L hN hk hq
  show wpX_erase (fun r u' => wpY_erase (fun r' v' => r' = r ∧ i_Rel (k + 5) u' v') (nI df, nI mt, nI D, nI mp, nI L, f_draftTarget, f_result, f_price, f_peak, g_items, g_frames, g_paid, g_high, g_ending, g_outcome, g_giving, g_value, g_expr, g_frame, b_kind, b_val, a_slotUsed, a_slotSize, a_slotArity, a_slotLocals, b_itemSort, b_itemA, b_itemB, b_itemFrame, b_argExpr, b_argFrame) v1) (f_draftSlot, f_slotTokens, f_slotRoots, f_itemArgument, f_itemLeft, f_itemRight, f_itemChoice, f_nodeFresh, f_nodeBusy, f_nodeNumber, f_nodePartial, f_modeRead, f_modeDemand, f_modeEnter, f_modeGive, f_placeNodes, nI df, nI mt, nI D, nI mp, nI L, f_draftTarget, f_draftMade, f_result, f_price, f_peak, f_outcome, f_mode, f_nowA, f_nowB, f_items, f_marks, f_high, f_nodes, f_frames, a_slotUsed, a_slotArity, a_slotLocals, a_slotSize, a_tokenKind, a_tokenValue, a_tokenSpan, a_roots, a_itemSort, a_itemA, a_itemB, a_markNode, a_markPrice, a_markBase, a_markHigh, a_nodeState, a_nodeCode, a_nodeExtra, a_nodePrice, a_nodeHeight, a_nodeHeld, a_frameArgs, a_frameLocals) v1
  unfold wpX_erase
  have hdf := hN.2.1
  rcases gr_ix v1 hdf with hx | ⟨j, hj, rfl⟩
  · refine gn_pl0 hx (br_t rfl ?_)
    exact gr_y0 hx ⟨rfl, gr_in hN hk hq⟩
  · have cl : (nI j).toNatClampNeg = j := nI_clamp (by omega)
    refine gn_pl1 hj hdf (br_f (by decide) ⟨ga_in (by omega), ?_⟩)
    by_cases g : a_slotUsed j = 0
    · refine br_t (by rw [cl]; exact g) ?_
      exact gr_y1 hj hdf ⟨ga_in (by omega), br_t (by rw [cl]; exact g) ⟨rfl, gr_in hN hk hq⟩⟩
    · refine br_f (by rw [cl]; exact g) ⟨ga_in (by omega), nm_r (e' := upd a_slotUsed j 0) (by rw [cl, ga_vb0]) ?_⟩
      refine gr_y1 hj hdf ⟨ga_in (by omega), br_f (by rw [cl]; exact g) ⟨ga_in (by omega), nm_r (e' := upd a_slotUsed j 0) (by rw [cl, ga_vb0]) ⟨rfl, gr_in hN hk (go_Qu hq (fun d hd hn => ?_) (fun d _ => ⟨rfl, rfl, rfl⟩) (fun hn => ?_))⟩⟩⟩
      · by_cases w : d = j
        · subst w; exact absurd pk_us hn
        · rw [pk_un w] at hn; exact hn
      · rw [pk_un (by omega)] at hn
        exact hq.2 hn
theorem i_vc_begin {k : Nat} {u : SX} {v : SY} (I : i_Rel k u v) (hk : k + 5 ≤ 2564) (v1 : Int32) (v2 : Int32) (v3 : Int32) : wpX_begin (fun r u' => wpY_begin (fun r' v' => r' = r ∧ i_Rel (k + 5) u' v') v v1 v2 v3) u v1 v2 v3 := by
  refine gr_el (P := fun u v => wpX_begin (fun r u' => wpY_begin (fun r' v' => r' = r ∧ i_Rel (k + 5) u' v') v v1 v2 v3) u v1 v2 v3) ?_ I
  intro f_draftSlot f_slotTokens f_slotRoots f_itemArgument f_itemLeft f_itemRight f_itemChoice f_nodeFresh f_nodeBusy f_nodeNumber f_nodePartial f_modeRead f_modeDemand f_modeEnter f_modeGive f_placeNodes f_draftTarget f_draftMade f_result f_price f_peak f_outcome f_mode f_nowA f_nowB f_items f_marks f_high f_nodes f_frames a_slotUsed a_slotArity a_slotLocals a_slotSize a_tokenKind a_tokenValue a_tokenSpan a_roots a_itemSort a_itemA a_itemB a_markNode a_markPrice a_markBase a_markHigh a_nodeState a_nodeCode a_nodeExtra a_nodePrice a_nodeHeight a_nodeHeld a_frameArgs a_frameLocals g_items g_frames g_paid g_high g_ending g_outcome g_giving g_value g_expr g_frame b_kind b_val b_itemSort b_itemA b_itemB b_itemFrame b_argExpr b_argFrame df mt D mp L hN hk hq
  show wpX_begin (fun r u' => wpY_begin (fun r' v' => r' = r ∧ i_Rel (k + 5) u' v') (nI df, nI mt, nI D, nI mp, nI L, f_draftTarget, f_result, f_price, f_peak, g_items, g_frames, g_paid, g_high, g_ending, g_outcome, g_giving, g_value, g_expr, g_frame, b_kind, b_val, a_slotUsed, a_slotSize, a_slotArity, a_slotLocals, b_itemSort, b_itemA, b_itemB, b_itemFrame, b_argExpr, b_argFrame) v1 v2 v3) (f_draftSlot, f_slotTokens, f_slotRoots, f_itemArgument, f_itemLeft, f_itemRight, f_itemChoice, f_nodeFresh, f_nodeBusy, f_nodeNumber, f_nodePartial, f_modeRead, f_modeDemand, f_modeEnter, f_modeGive, f_placeNodes, nI df, nI mt, nI D, nI mp, nI L, f_draftTarget, f_draftMade, f_result, f_price, f_peak, f_outcome, f_mode, f_nowA, f_nowB, f_items, f_marks, f_high, f_nodes, f_frames, a_slotUsed, a_slotArity, a_slotLocals, a_slotSize, a_tokenKind, a_tokenValue, a_tokenSpan, a_roots, a_itemSort, a_itemA, a_itemB, a_markNode, a_markPrice, a_markBase, a_markHigh, a_nodeState, a_nodeCode, a_nodeExtra, a_nodePrice, a_nodeHeight, a_nodeHeld, a_frameArgs, a_frameLocals) v1 v2 v3
  unfold wpX_begin
  have hdf := hN.2.1
  rcases gr_ix v1 hdf with hx | ⟨j, hj, rfl⟩
  · refine gn_pl0 hx (br_t rfl ?_)
    exact gr_y0 hx ⟨rfl, gr_in hN hk hq⟩
  · refine gn_pl1 hj hdf (br_f (by decide) ?_)
    by_cases a1 : v2 < 0
    · refine br_t a1 ?_
      exact gr_y1 hj hdf (br_t a1 ⟨rfl, gr_in hN hk hq⟩)
    by_cases a2 : 4 < v2
    · refine br_f a1 (br_t a2 ?_)
      exact gr_y1 hj hdf (br_f a1 (br_f (Int32.not_le.mpr a2) ⟨rfl, gr_in hN hk hq⟩))
    by_cases a3 : v3 < 0
    · refine br_f a1 (br_f a2 (br_t a3 ?_))
      exact gr_y1 hj hdf (br_f a1 (br_t (Int32.not_lt.mp a2) (br_t a3 ⟨rfl, gr_in hN hk hq⟩)))
    by_cases a4 : v3 ≤ 3
    · refine br_f a1 (br_f a2 (br_f a3 (br_t a4 (nm_r (e' := upd a_slotUsed 8 1) (by rw [ga_vb1]) (nm_e (nm_e (nm_e ?_)))))))
      obtain ⟨a, a5, rfl⟩ := nI_of2 (M := 4) (n := 4) (by decide) a1 (Int32.not_lt.mp a2)
      obtain ⟨l, l5, rfl⟩ := nI_of2 (M := 3) (n := 3) (by decide) a3 a4
      refine gr_y1 hj hdf (br_f a1 (br_t (Int32.not_lt.mp a2) (br_f a3 (br_t a4 (nm_r (e' := upd a_slotUsed 8 1) (by rw [ga_vb1]) (nm_e (nm_e (nm_e ⟨rfl, gr_in hN hk (go_Qu hq (fun d hd hn => ?_) (fun d hd => ⟨pk_un (by omega), pk_un (by omega), pk_un (by omega)⟩) (fun hn => ?_))⟩))))))))
      · rw [pk_un (by omega)] at hn; exact hn
      · exact ⟨0, a, l, j, by omega, a5, l5, pk_us, pk_us, pk_us, fun i hi => absurd hi (by omega), rfl, rfl, hj⟩
    · refine br_f a1 (br_f a2 (br_f a3 (br_f a4 ?_)))
      exact gr_y1 hj hdf (br_f a1 (br_t (Int32.not_lt.mp a2) (br_f a3 (br_f a4 ⟨rfl, gr_in hN hk hq⟩))))
end W
end GO
end
section
section GE
section X
variable {f_draftSlot f_slotTokens f_slotRoots f_itemArgument f_itemLeft f_itemRight f_itemChoice f_nodeFresh f_nodeBusy f_nodeNumber f_nodePartial f_modeRead f_modeDemand f_modeEnter f_modeGive f_placeNodes f_defs f_maxTokens f_depth f_maxPrice f_limit f_draftTarget f_draftMade f_result f_price f_peak f_outcome f_mode f_nowA f_nowB f_items f_marks f_high f_nodes f_frames : Int32} {a_slotUsed a_slotArity a_slotLocals a_slotSize a_tokenKind a_tokenValue a_tokenSpan a_roots a_itemSort a_itemA a_itemB a_markNode a_markPrice a_markBase a_markHigh a_nodeState a_nodeCode a_nodeExtra a_nodePrice a_nodeHeight a_nodeHeld a_frameArgs a_frameLocals : Nat → Int32}
theorem ge_app_l {x1 x2 : Int32} {N t ar lc df : Nat} (hr : gt_Row a_tokenKind a_tokenValue a_tokenSpan 192 N ar lc df) (hN : N < 24) (ht : t ≤ gt_ct a_tokenKind 192 N) :
    ∀ d j s, j + d = t → gt_AP a_tokenKind 192 N j s → ∃ s', gt_AP a_tokenKind 192 N t s' ∧ ∀ post : Int32 → SX → Prop, post (f_draftMade + (1 - nI t)) (f_draftSlot, f_slotTokens, f_slotRoots, f_itemArgument, f_itemLeft, f_itemRight, f_itemChoice, f_nodeFresh, f_nodeBusy, f_nodeNumber, f_nodePartial, f_modeRead, f_modeDemand, f_modeEnter, f_modeGive, f_placeNodes, f_defs, f_maxTokens, f_depth, f_maxPrice, f_limit, f_draftTarget, f_draftMade + (1 - nI t), f_result, f_price, f_peak, f_outcome, f_mode, f_nowA, f_nowB, f_items, f_marks, f_high, f_nodes, f_frames, a_slotUsed, a_slotArity, a_slotLocals, upd a_slotSize 8 (nI (N + 1)), upd a_tokenKind (192 + N) x1, upd a_tokenValue (192 + N) x2, upd a_tokenSpan (192 + N) (nI s'), a_roots, a_itemSort, a_itemA, a_itemB, a_markNode, a_markPrice, a_markBase, a_markHigh, a_nodeState, a_nodeCode, a_nodeExtra, a_nodePrice, a_nodeHeight, a_nodeHeld, a_frameArgs, a_frameLocals) →
      wX_append_66 post x1 x2 (nI t) (nI N) (nI (192 + N)) f_draftSlot f_slotTokens f_slotRoots f_itemArgument f_itemLeft f_itemRight f_itemChoice f_nodeFresh f_nodeBusy f_nodeNumber f_nodePartial f_modeRead f_modeDemand f_modeEnter f_modeGive f_placeNodes f_defs f_maxTokens f_depth f_maxPrice f_limit f_draftTarget f_draftMade f_result f_price f_peak f_outcome f_mode f_nowA f_nowB f_items f_marks f_high f_nodes f_frames a_slotUsed a_slotArity a_slotLocals a_slotSize a_tokenKind a_tokenValue a_tokenSpan a_roots a_itemSort a_itemA a_itemB a_markNode a_markPrice a_markBase a_markHigh a_nodeState a_nodeCode a_nodeExtra a_nodePrice a_nodeHeight a_nodeHeld a_frameArgs a_frameLocals (d + 1) (nI s) (nI j)
  | 0, j, s, e, a => by
    obtain rfl : j = t := e
    have vi : vp_in (nI (192 + N)) 216 := ga_in (by omega)
    have cl : (nI (192 + N)).toNatClampNeg = 192 + N := nI_clamp (by omega)
    refine ⟨s, a, fun post h => br_t (Int32.le_refl _) ⟨vi, nm_r (e' := upd a_tokenKind (192 + N) x1) (by rw [cl]) ⟨vi, nm_r (e' := upd a_tokenValue (192 + N) x2) (by rw [cl]) ⟨vi, nm_r (e' := upd a_tokenSpan (192 + N) (nI s)) (by rw [cl]) (nm_r (e' := upd a_slotSize 8 (nI (N + 1))) (by rw [nI_1]) (nm_e h))⟩⟩⟩⟩
  | d + 1, j, s, e, a => by
    have l1 := gl_ct_le a_tokenKind 192 N
    obtain ⟨b1, r, b2, b3, b4⟩ := gt_APs hr a (by omega)
    have x3 : nI (192 + N) - nI s = nI (192 + (N - s)) := by
      rw [pk_sub (by omega)]; exact congrArg nI (by omega)
    have c3 : (nI (192 + N) - nI s).toNatClampNeg = 192 + (N - s) := pk_cl _ x3
    obtain ⟨s', a', k'⟩ := ge_app_l hr hN ht d (j + 1) (s + r) (by omega) b4
    exact ⟨s', a', fun post h => br_f (nI_ge (by omega) (by omega)) ⟨pk_in _ 216 (by omega) x3, nm_r (e' := nI (s + r)) (by rw [c3, b2, nI_add]) (nm_r (nI_1 j) (k' post h))⟩⟩
end X
theorem ge_dm {c t : Nat} (h : t ≤ c) : nI c + (1 - nI t) = nI (c + 1 - t) := by
  have e : nI c + (1 - nI t) = nI c + 1 - nI t := by rw [Int32.sub_eq_add_neg, Int32.sub_eq_add_neg, Int32.add_assoc]
  rw [e, nI_1, pk_sub (by omega)]
theorem ge_op {V : Int32} {x : Int32} {a : Nat} (ha : a < 1000) (hx : x = nI a) (h1 : ¬ V < 0) (h2 : ¬ x ≤ V) : ∃ i, i < a ∧ V = nI i := by
  subst hx
  obtain ⟨j, j1, rfl⟩ := nI_of h1
  refine ⟨j, ?_, rfl⟩
  by_cases g : j < a
  · exact g
  · exact absurd (nI_le (by omega) j1) h2
section V
variable {f_draftSlot f_slotTokens f_slotRoots f_itemArgument f_itemLeft f_itemRight f_itemChoice f_nodeFresh f_nodeBusy f_nodeNumber f_nodePartial f_modeRead f_modeDemand f_modeEnter f_modeGive f_placeNodes f_draftTarget f_draftMade f_result f_price f_peak f_outcome f_mode f_nowA f_nowB f_items f_marks f_high f_nodes f_frames : Int32} {a_slotUsed a_slotArity a_slotLocals a_slotSize a_tokenKind a_tokenValue a_tokenSpan a_roots a_itemSort a_itemA a_itemB a_markNode a_markPrice a_markBase a_markHigh a_nodeState a_nodeCode a_nodeExtra a_nodePrice a_nodeHeight a_nodeHeld a_frameArgs a_frameLocals : Nat → Int32} {g_items g_frames g_paid g_high g_ending g_outcome g_giving g_value g_expr g_frame : Int32} {b_kind b_val b_itemSort b_itemA b_itemB b_itemFrame b_argExpr b_argFrame : Nat → Int32} {df mt D mp L k : Nat} {v1 v2 v3 : Int32}
theorem ge_add (hN : gr_N df mt D mp L) (hk : ∀ q, q < 216 → b_kind q = a_tokenKind q ∧ b_val q = a_tokenValue q) (hq : gr_Q df mt f_draftTarget f_draftMade a_slotUsed a_slotArity a_slotLocals a_slotSize a_tokenKind a_tokenValue a_tokenSpan a_roots) {K V al : Int32} {t : Nat}
    (hal : al = 0 ∨ (al = 1 ∧ gt_tk K = t ∧ (∃ kk, 1 ≤ kk ∧ kk ≤ 11 ∧ K = nI kk) ∧ (K = 2 → ¬ V < 0 ∧ ¬ a_slotArity 8 ≤ V) ∧ (K = 3 → ¬ V < 0 ∧ ¬ a_slotLocals 8 ≤ V) ∧ (K = 4 → ¬ V < 0 ∧ ¬ nI df ≤ V))) :
    ∃ r u' v', i_Rel (k + 5) u' v' ∧ (∀ post : Int32 → SX → Prop, post r u' → wpX_append post (f_draftSlot, f_slotTokens, f_slotRoots, f_itemArgument, f_itemLeft, f_itemRight, f_itemChoice, f_nodeFresh, f_nodeBusy, f_nodeNumber, f_nodePartial, f_modeRead, f_modeDemand, f_modeEnter, f_modeGive, f_placeNodes, nI df, nI mt, nI D, nI mp, nI L, f_draftTarget, f_draftMade, f_result, f_price, f_peak, f_outcome, f_mode, f_nowA, f_nowB, f_items, f_marks, f_high, f_nodes, f_frames, a_slotUsed, a_slotArity, a_slotLocals, a_slotSize, a_tokenKind, a_tokenValue, a_tokenSpan, a_roots, a_itemSort, a_itemA, a_itemB, a_markNode, a_markPrice, a_markBase, a_markHigh, a_nodeState, a_nodeCode, a_nodeExtra, a_nodePrice, a_nodeHeight, a_nodeHeld, a_frameArgs, a_frameLocals) K V al (nI t)) ∧ ∀ post : Int32 → SY → Prop, post r v' → wpY_add post (nI df, nI mt, nI D, nI mp, nI L, f_draftTarget, f_result, f_price, f_peak, g_items, g_frames, g_paid, g_high, g_ending, g_outcome, g_giving, g_value, g_expr, g_frame, b_kind, b_val, a_slotUsed, a_slotSize, a_slotArity, a_slotLocals, b_itemSort, b_itemA, b_itemB, b_itemFrame, b_argExpr, b_argFrame) K V al := by
  have hI : i_Rel (k + 5) (f_draftSlot, f_slotTokens, f_slotRoots, f_itemArgument, f_itemLeft, f_itemRight, f_itemChoice, f_nodeFresh, f_nodeBusy, f_nodeNumber, f_nodePartial, f_modeRead, f_modeDemand, f_modeEnter, f_modeGive, f_placeNodes, nI df, nI mt, nI D, nI mp, nI L, f_draftTarget, f_draftMade, f_result, f_price, f_peak, f_outcome, f_mode, f_nowA, f_nowB, f_items, f_marks, f_high, f_nodes, f_frames, a_slotUsed, a_slotArity, a_slotLocals, a_slotSize, a_tokenKind, a_tokenValue, a_tokenSpan, a_roots, a_itemSort, a_itemA, a_itemB, a_markNode, a_markPrice, a_markBase, a_markHigh, a_nodeState, a_nodeCode, a_nodeExtra, a_nodePrice, a_nodeHeight, a_nodeHeld, a_frameArgs, a_frameLocals) (nI df, nI mt, nI D, nI mp, nI L, f_draftTarget, f_result, f_price, f_peak, g_items, g_frames, g_paid, g_high, g_ending, g_outcome, g_giving, g_value, g_expr, g_frame, b_kind, b_val, a_slotUsed, a_slotSize, a_slotArity, a_slotLocals, b_itemSort, b_itemA, b_itemB, b_itemFrame, b_argExpr, b_argFrame) := gr_in hN hk hq
  by_cases g0 : a_slotUsed 8 = 0
  · exact ⟨-2, _, _, hI, fun post hp => br_t g0 hp, fun post hp => br_t g0 hp⟩
  obtain ⟨n, a, l, tt, d1, d2, d3, d4, d5, d6, hr, d8, d9, d10⟩ := hq.2 g0
  obtain ⟨n1, n2, n3, n4, _⟩ := id hN
  subst d8
  by_cases g1 : n < mt
  · have c1 : a_slotSize 8 < nI mt := by rw [d4]; exact nI_lt g1 (by omega)
    rcases hal with rfl | ⟨rfl, t1, t2, t3, t4, t5⟩
    · exact ⟨-1, _, _, hI, fun post hp => br_f g0 (nm_e (br_t c1 (br_t rfl hp))), fun post hp => br_f g0 (br_t c1 (br_t rfl hp))⟩
    · have l1 := gl_ct_le a_tokenKind 192 n
      have cgk : ∀ j, j < n → b_kind (192 + j) = a_tokenKind (192 + j) ∧ b_val (192 + j) = a_tokenValue (192 + j) ∧ a_tokenSpan (192 + j) = a_tokenSpan (192 + j) := fun j hj => ⟨(hk _ (by omega)).1, (hk _ (by omega)).2, rfl⟩
      have hrY : gt_Row b_kind b_val a_tokenSpan 192 n a l df := gt_Row_cg cgk hr
      have ecY : gt_ct b_kind 192 n = gt_ct a_tokenKind 192 n := gt_ct_cg n (fun i hi => (cgk i hi).1)
      have t6 := gt_tk_le K
      by_cases g2 : t ≤ gt_ct a_tokenKind 192 n
      · have c2 : nI t ≤ nI (gt_ct a_tokenKind 192 n) := nI_le g2 (by omega)
        obtain ⟨s, ap, wX⟩ := ge_app_l (f_draftSlot := f_draftSlot) (f_slotTokens := f_slotTokens) (f_slotRoots := f_slotRoots) (f_itemArgument := f_itemArgument) (f_itemLeft := f_itemLeft) (f_itemRight := f_itemRight) (f_itemChoice := f_itemChoice) (f_nodeFresh := f_nodeFresh) (f_nodeBusy := f_nodeBusy) (f_nodeNumber := f_nodeNumber) (f_nodePartial := f_nodePartial) (f_modeRead := f_modeRead) (f_modeDemand := f_modeDemand) (f_modeEnter := f_modeEnter) (f_modeGive := f_modeGive) (f_placeNodes := f_placeNodes) (f_defs := nI df) (f_maxTokens := nI mt) (f_depth := nI D) (f_maxPrice := nI mp) (f_limit := nI L) (f_draftTarget := f_draftTarget) (f_result := f_result) (f_price := f_price) (f_peak := f_peak) (f_outcome := f_outcome) (f_mode := f_mode) (f_nowA := f_nowA) (f_nowB := f_nowB) (f_items := f_items) (f_marks := f_marks) (f_high := f_high) (f_nodes := f_nodes) (f_frames := f_frames) (a_slotUsed := a_slotUsed) (a_slotArity := a_slotArity) (a_slotLocals := a_slotLocals) (a_slotSize := a_slotSize) (a_tokenKind := a_tokenKind) (a_tokenValue := a_tokenValue) (a_tokenSpan := a_tokenSpan) (a_roots := a_roots) (a_itemSort := a_itemSort) (a_itemA := a_itemA) (a_itemB := a_itemB) (a_markNode := a_markNode) (a_markPrice := a_markPrice) (a_markBase := a_markBase) (a_markHigh := a_markHigh) (a_nodeState := a_nodeState) (a_nodeCode := a_nodeCode) (a_nodeExtra := a_nodeExtra) (a_nodePrice := a_nodePrice) (a_nodeHeight := a_nodeHeight) (a_nodeHeld := a_nodeHeld) (a_frameArgs := a_frameArgs) (a_frameLocals := a_frameLocals) (f_draftMade := nI (gt_ct a_tokenKind 192 n)) (x1 := K) (x2 := V) hr (by omega) g2 t 0 1 (by omega) gt_AP0
        have hpush := gt_push hr (V := V) t2 (by rw [t1]; exact g2) (fun e => ge_op (by omega) d5 (t3 e).1 (t3 e).2) (fun e => ge_op (by omega) d6 (t4 e).1 (t4 e).2) (fun e => ge_op (by omega) rfl (t5 e).1 (t5 e).2) (by rw [t1]; exact ap)
        obtain ⟨hr2, hc2⟩ := hpush
        rw [t1] at hc2
        have hk2 : ∀ q, q < 216 → upd b_kind (192 + n) K q = upd a_tokenKind (192 + n) K q ∧ upd b_val (192 + n) V q = upd a_tokenValue (192 + n) V q := by
          intro q hq
          by_cases w : q = 192 + n
          · subst w; rw [pk_us, pk_us, pk_us, pk_us]; exact ⟨rfl, rfl⟩
          · rw [pk_un w, pk_un w, pk_un w, pk_un w]; exact hk q hq
        have cg2 : ∀ j, j < n + 1 → upd b_kind (192 + n) K (192 + j) = upd a_tokenKind (192 + n) K (192 + j) ∧ upd b_val (192 + n) V (192 + j) = upd a_tokenValue (192 + n) V (192 + j) ∧ upd a_tokenSpan (192 + n) (nI s) (192 + j) = upd a_tokenSpan (192 + n) (nI s) (192 + j) := fun j hj => ⟨(hk2 _ (by omega)).1, (hk2 _ (by omega)).2, rfl⟩
        have hrY2 := gt_Row_cg cg2 hr2
        have ecY2 : gt_ct (upd b_kind (192 + n) K) 192 (n + 1) = gt_ct a_tokenKind 192 n + 1 - t := (gt_ct_cg (n + 1) (fun i hi => (cg2 i hi).1)).trans hc2
        rw [ge_dm g2] at wX
        have hQ2 : gr_Q df mt f_draftTarget (nI (gt_ct a_tokenKind 192 n + 1 - t)) a_slotUsed a_slotArity a_slotLocals (upd a_slotSize 8 (nI (n + 1))) (upd a_tokenKind (192 + n) K) (upd a_tokenValue (192 + n) V) (upd a_tokenSpan (192 + n) (nI s)) a_roots := by
          refine ⟨fun d hd hu => gr_SL_cg ⟨rfl, rfl, pk_un (by omega)⟩ (fun q _ _ => ⟨pk_un (by omega), pk_un (by omega), pk_un (by omega)⟩) (fun q _ _ => rfl) (hq.1 d hd hu), fun _ => ?_⟩
          exact ⟨n + 1, a, l, tt, by omega, d2, d3, pk_us, d5, d6, hr2, by rw [hc2], d9, d10⟩
        refine ⟨nI (gt_ct a_tokenKind 192 n + 1 - t), (f_draftSlot, f_slotTokens, f_slotRoots, f_itemArgument, f_itemLeft, f_itemRight, f_itemChoice, f_nodeFresh, f_nodeBusy, f_nodeNumber, f_nodePartial, f_modeRead, f_modeDemand, f_modeEnter, f_modeGive, f_placeNodes, nI df, nI mt, nI D, nI mp, nI L, f_draftTarget, nI (gt_ct a_tokenKind 192 n + 1 - t), f_result, f_price, f_peak, f_outcome, f_mode, f_nowA, f_nowB, f_items, f_marks, f_high, f_nodes, f_frames, a_slotUsed, a_slotArity, a_slotLocals, upd a_slotSize 8 (nI (n + 1)), upd a_tokenKind (192 + n) K, upd a_tokenValue (192 + n) V, upd a_tokenSpan (192 + n) (nI s), a_roots, a_itemSort, a_itemA, a_itemB, a_markNode, a_markPrice, a_markBase, a_markHigh, a_nodeState, a_nodeCode, a_nodeExtra, a_nodePrice, a_nodeHeight, a_nodeHeld, a_frameArgs, a_frameLocals), (nI df, nI mt, nI D, nI mp, nI L, f_draftTarget, f_result, f_price, f_peak, g_items, g_frames, g_paid, g_high, g_ending, g_outcome, g_giving, g_value, g_expr, g_frame, upd b_kind (192 + n) K, upd b_val (192 + n) V, a_slotUsed, upd a_slotSize 8 (nI (n + 1)), a_slotArity, a_slotLocals, b_itemSort, b_itemA, b_itemB, b_itemFrame, b_argExpr, b_argFrame), gr_in hN hk2 hQ2, fun post hp => br_f g0 (nm_r d4 (br_t (nI_lt g1 (by omega)) (br_f (by decide) (br_t c2 (nm_r (ga_a192 n) ⟨t + 1, wX post hp⟩))))), fun post hp => ?_⟩
        unfold wpY_add
        refine br_f g0 (br_t c1 (br_f (by decide) ?_))
        refine gl_made d4 (by omega) hrY ?_
        rw [ecY]
        refine gl_takes ?_
        rw [t1]
        have x4 : 192 + a_slotSize 8 = nI (192 + n) := by rw [d4, ga_a192]
        have v4 : vp_in (nI (192 + n)) 240 := ga_in (by omega)
        have c4 : (nI (192 + n)).toNatClampNeg = 192 + n := nI_clamp (by omega)
        refine br_t c2 (nm_r x4 ⟨v4, nm_r (e' := upd b_kind (192 + n) K) (by rw [c4]) ⟨v4, nm_r (e' := upd b_val (192 + n) V) (by rw [c4]) (nm_r (e' := upd a_slotSize 8 (nI (n + 1))) (by rw [d4, nI_1]) ?_)⟩⟩)
        refine gl_made pk_us (by omega) hrY2 ?_
        rw [ecY2]
        exact hp
      · have c2 : ¬ nI t ≤ nI (gt_ct a_tokenKind 192 n) := nI_ge (by omega) (by omega)
        refine ⟨-4, _, _, hI, fun post hp => br_f g0 (nm_e (br_t c1 (br_f (by decide) (br_f c2 hp)))), fun post hp => ?_⟩
        unfold wpY_add
        refine br_f g0 (br_t c1 (br_f (by decide) ?_))
        refine gl_made d4 (by omega) hrY ?_
        rw [ecY]
        refine gl_takes ?_
        rw [t1]
        exact br_f c2 hp
  · have c1 : ¬ a_slotSize 8 < nI mt := by rw [d4]; exact nI_nlt (by omega) (by omega)
    exact ⟨-3, _, _, hI, fun post hp => br_f g0 (nm_e (br_f c1 hp)), fun post hp => br_f g0 (br_f c1 hp)⟩
end V
end GE
end
section
section GF
theorem gf_eY {K : SY → Prop} (u : SY) (h : K u) : (match u with | (g_defs, g_maxTokens, g_depth, g_maxPrice, g_limitNow, g_draftTarget, g_lastResult, g_lastPrice, g_lastPeak, g_items, g_frames, g_paid, g_high, g_ending, g_outcome, g_giving, g_value, g_expr, g_frame, b_kind, b_val, b_there, b_sizes, b_arities, b_localCounts, b_itemSort, b_itemA, b_itemB, b_itemFrame, b_argExpr, b_argFrame) => K (g_defs, g_maxTokens, g_depth, g_maxPrice, g_limitNow, g_draftTarget, g_lastResult, g_lastPrice, g_lastPeak, g_items, g_frames, g_paid, g_high, g_ending, g_outcome, g_giving, g_value, g_expr, g_frame, b_kind, b_val, b_there, b_sizes, b_arities, b_localCounts, b_itemSort, b_itemA, b_itemB, b_itemFrame, b_argExpr, b_argFrame)) := h
theorem i_vc_num {k : Nat} {u : SX} {v : SY} (I : i_Rel k u v) (hk : k + 5 ≤ 2564) (v1 : Int32) : wpX_num (fun r u' => wpY_num (fun r' v' => r' = r ∧ i_Rel (k + 5) u' v') v v1) u v1 := by
  refine gr_el (P := fun u v => wpX_num (fun r u' => wpY_num (fun r' v' => r' = r ∧ i_Rel (k + 5) u' v') v v1) u v1) ?_ I
  intro f_draftSlot f_slotTokens f_slotRoots f_itemArgument f_itemLeft f_itemRight f_itemChoice f_nodeFresh f_nodeBusy f_nodeNumber f_nodePartial f_modeRead f_modeDemand f_modeEnter f_modeGive f_placeNodes f_draftTarget f_draftMade f_result f_price f_peak f_outcome f_mode f_nowA f_nowB f_items f_marks f_high f_nodes f_frames a_slotUsed a_slotArity a_slotLocals a_slotSize a_tokenKind a_tokenValue a_tokenSpan a_roots a_itemSort a_itemA a_itemB a_markNode a_markPrice a_markBase a_markHigh a_nodeState a_nodeCode a_nodeExtra a_nodePrice a_nodeHeight a_nodeHeld a_frameArgs a_frameLocals g_items g_frames g_paid g_high g_ending g_outcome g_giving g_value g_expr g_frame b_kind b_val b_itemSort b_itemA b_itemB b_itemFrame b_argExpr b_argFrame df mt D mp L hN hk hq
  show wpX_num (fun r u' => wpY_num (fun r' v' => r' = r ∧ i_Rel (k + 5) u' v') (nI df, nI mt, nI D, nI mp, nI L, f_draftTarget, f_result, f_price, f_peak, g_items, g_frames, g_paid, g_high, g_ending, g_outcome, g_giving, g_value, g_expr, g_frame, b_kind, b_val, a_slotUsed, a_slotSize, a_slotArity, a_slotLocals, b_itemSort, b_itemA, b_itemB, b_itemFrame, b_argExpr, b_argFrame) v1) (f_draftSlot, f_slotTokens, f_slotRoots, f_itemArgument, f_itemLeft, f_itemRight, f_itemChoice, f_nodeFresh, f_nodeBusy, f_nodeNumber, f_nodePartial, f_modeRead, f_modeDemand, f_modeEnter, f_modeGive, f_placeNodes, nI df, nI mt, nI D, nI mp, nI L, f_draftTarget, f_draftMade, f_result, f_price, f_peak, f_outcome, f_mode, f_nowA, f_nowB, f_items, f_marks, f_high, f_nodes, f_frames, a_slotUsed, a_slotArity, a_slotLocals, a_slotSize, a_tokenKind, a_tokenValue, a_tokenSpan, a_roots, a_itemSort, a_itemA, a_itemB, a_markNode, a_markPrice, a_markBase, a_markHigh, a_nodeState, a_nodeCode, a_nodeExtra, a_nodePrice, a_nodeHeight, a_nodeHeld, a_frameArgs, a_frameLocals) v1
  obtain ⟨r, u', v', hI, hX, hY⟩ := ge_add (k := k) (f_draftSlot := f_draftSlot) (f_slotTokens := f_slotTokens) (f_slotRoots := f_slotRoots) (f_itemArgument := f_itemArgument) (f_itemLeft := f_itemLeft) (f_itemRight := f_itemRight) (f_itemChoice := f_itemChoice) (f_nodeFresh := f_nodeFresh) (f_nodeBusy := f_nodeBusy) (f_nodeNumber := f_nodeNumber) (f_nodePartial := f_nodePartial) (f_modeRead := f_modeRead) (f_modeDemand := f_modeDemand) (f_modeEnter := f_modeEnter) (f_modeGive := f_modeGive) (f_placeNodes := f_placeNodes) (f_draftTarget := f_draftTarget) (f_draftMade := f_draftMade) (f_result := f_result) (f_price := f_price) (f_peak := f_peak) (f_outcome := f_outcome) (f_mode := f_mode) (f_nowA := f_nowA) (f_nowB := f_nowB) (f_items := f_items) (f_marks := f_marks) (f_high := f_high) (f_nodes := f_nodes) (f_frames := f_frames) (a_slotUsed := a_slotUsed) (a_slotArity := a_slotArity) (a_slotLocals := a_slotLocals) (a_slotSize := a_slotSize) (a_tokenKind := a_tokenKind) (a_tokenValue := a_tokenValue) (a_tokenSpan := a_tokenSpan) (a_roots := a_roots) (a_itemSort := a_itemSort) (a_itemA := a_itemA) (a_itemB := a_itemB) (a_markNode := a_markNode) (a_markPrice := a_markPrice) (a_markBase := a_markBase) (a_markHigh := a_markHigh) (a_nodeState := a_nodeState) (a_nodeCode := a_nodeCode) (a_nodeExtra := a_nodeExtra) (a_nodePrice := a_nodePrice) (a_nodeHeight := a_nodeHeight) (a_nodeHeld := a_nodeHeld) (a_frameArgs := a_frameArgs) (a_frameLocals := a_frameLocals) (g_items := g_items) (g_frames := g_frames) (g_paid := g_paid) (g_high := g_high) (g_ending := g_ending) (g_outcome := g_outcome) (g_giving := g_giving) (g_value := g_value) (g_expr := g_expr) (g_frame := g_frame) (b_kind := b_kind) (b_val := b_val) (b_itemSort := b_itemSort) (b_itemA := b_itemA) (b_itemB := b_itemB) (b_itemFrame := b_itemFrame) (b_argExpr := b_argExpr) (b_argFrame := b_argFrame) (df := df) (mt := mt) (D := D) (mp := mp) (L := L) hN hk hq (K := 1) (V := v1) (al := 1) (t := 0) (Or.inr ⟨rfl, by decide, ⟨1, by omega, by omega, rfl⟩, (fun e => absurd e (by decide)), (fun e => absurd e (by decide)), (fun e => absurd e (by decide))⟩)
  unfold wpX_num
  refine hX _ ?_
  refine gk_eta (K := fun w => wpY_num (fun r' v' => r' = r ∧ i_Rel (k + 5) w v') (nI df, nI mt, nI D, nI mp, nI L, f_draftTarget, f_result, f_price, f_peak, g_items, g_frames, g_paid, g_high, g_ending, g_outcome, g_giving, g_value, g_expr, g_frame, b_kind, b_val, a_slotUsed, a_slotSize, a_slotArity, a_slotLocals, b_itemSort, b_itemA, b_itemB, b_itemFrame, b_argExpr, b_argFrame) v1) u' ?_
  show wpY_num _ (nI df, nI mt, nI D, nI mp, nI L, f_draftTarget, f_result, f_price, f_peak, g_items, g_frames, g_paid, g_high, g_ending, g_outcome, g_giving, g_value, g_expr, g_frame, b_kind, b_val, a_slotUsed, a_slotSize, a_slotArity, a_slotLocals, b_itemSort, b_itemA, b_itemB, b_itemFrame, b_argExpr, b_argFrame) v1
  unfold wpY_num
  refine hY _ ?_
  exact gf_eY (K := fun w => r = r ∧ i_Rel (k + 5) u' w) v' ⟨rfl, hI⟩
theorem i_vc_ap {k : Nat} {u : SX} {v : SY} (I : i_Rel k u v) (hk : k + 5 ≤ 2564) : wpX_ap (fun r u' => wpY_ap (fun r' v' => r' = r ∧ i_Rel (k + 5) u' v') v) u := by
  refine gr_el (P := fun u v => wpX_ap (fun r u' => wpY_ap (fun r' v' => r' = r ∧ i_Rel (k + 5) u' v') v) u) ?_ I
  intro f_draftSlot f_slotTokens f_slotRoots f_itemArgument f_itemLeft f_itemRight f_itemChoice f_nodeFresh f_nodeBusy f_nodeNumber f_nodePartial f_modeRead f_modeDemand f_modeEnter f_modeGive f_placeNodes f_draftTarget f_draftMade f_result f_price f_peak f_outcome f_mode f_nowA f_nowB f_items f_marks f_high f_nodes f_frames a_slotUsed a_slotArity a_slotLocals a_slotSize a_tokenKind a_tokenValue a_tokenSpan a_roots a_itemSort a_itemA a_itemB a_markNode a_markPrice a_markBase a_markHigh a_nodeState a_nodeCode a_nodeExtra a_nodePrice a_nodeHeight a_nodeHeld a_frameArgs a_frameLocals g_items g_frames g_paid g_high g_ending g_outcome g_giving g_value g_expr g_frame b_kind b_val b_itemSort b_itemA b_itemB b_itemFrame b_argExpr b_argFrame df mt D mp L hN hk hq
  show wpX_ap (fun r u' => wpY_ap (fun r' v' => r' = r ∧ i_Rel (k + 5) u' v') (nI df, nI mt, nI D, nI mp, nI L, f_draftTarget, f_result, f_price, f_peak, g_items, g_frames, g_paid, g_high, g_ending, g_outcome, g_giving, g_value, g_expr, g_frame, b_kind, b_val, a_slotUsed, a_slotSize, a_slotArity, a_slotLocals, b_itemSort, b_itemA, b_itemB, b_itemFrame, b_argExpr, b_argFrame)) (f_draftSlot, f_slotTokens, f_slotRoots, f_itemArgument, f_itemLeft, f_itemRight, f_itemChoice, f_nodeFresh, f_nodeBusy, f_nodeNumber, f_nodePartial, f_modeRead, f_modeDemand, f_modeEnter, f_modeGive, f_placeNodes, nI df, nI mt, nI D, nI mp, nI L, f_draftTarget, f_draftMade, f_result, f_price, f_peak, f_outcome, f_mode, f_nowA, f_nowB, f_items, f_marks, f_high, f_nodes, f_frames, a_slotUsed, a_slotArity, a_slotLocals, a_slotSize, a_tokenKind, a_tokenValue, a_tokenSpan, a_roots, a_itemSort, a_itemA, a_itemB, a_markNode, a_markPrice, a_markBase, a_markHigh, a_nodeState, a_nodeCode, a_nodeExtra, a_nodePrice, a_nodeHeight, a_nodeHeld, a_frameArgs, a_frameLocals)
  obtain ⟨r, u', v', hI, hX, hY⟩ := ge_add (k := k) (f_draftSlot := f_draftSlot) (f_slotTokens := f_slotTokens) (f_slotRoots := f_slotRoots) (f_itemArgument := f_itemArgument) (f_itemLeft := f_itemLeft) (f_itemRight := f_itemRight) (f_itemChoice := f_itemChoice) (f_nodeFresh := f_nodeFresh) (f_nodeBusy := f_nodeBusy) (f_nodeNumber := f_nodeNumber) (f_nodePartial := f_nodePartial) (f_modeRead := f_modeRead) (f_modeDemand := f_modeDemand) (f_modeEnter := f_modeEnter) (f_modeGive := f_modeGive) (f_placeNodes := f_placeNodes) (f_draftTarget := f_draftTarget) (f_draftMade := f_draftMade) (f_result := f_result) (f_price := f_price) (f_peak := f_peak) (f_outcome := f_outcome) (f_mode := f_mode) (f_nowA := f_nowA) (f_nowB := f_nowB) (f_items := f_items) (f_marks := f_marks) (f_high := f_high) (f_nodes := f_nodes) (f_frames := f_frames) (a_slotUsed := a_slotUsed) (a_slotArity := a_slotArity) (a_slotLocals := a_slotLocals) (a_slotSize := a_slotSize) (a_tokenKind := a_tokenKind) (a_tokenValue := a_tokenValue) (a_tokenSpan := a_tokenSpan) (a_roots := a_roots) (a_itemSort := a_itemSort) (a_itemA := a_itemA) (a_itemB := a_itemB) (a_markNode := a_markNode) (a_markPrice := a_markPrice) (a_markBase := a_markBase) (a_markHigh := a_markHigh) (a_nodeState := a_nodeState) (a_nodeCode := a_nodeCode) (a_nodeExtra := a_nodeExtra) (a_nodePrice := a_nodePrice) (a_nodeHeight := a_nodeHeight) (a_nodeHeld := a_nodeHeld) (a_frameArgs := a_frameArgs) (a_frameLocals := a_frameLocals) (g_items := g_items) (g_frames := g_frames) (g_paid := g_paid) (g_high := g_high) (g_ending := g_ending) (g_outcome := g_outcome) (g_giving := g_giving) (g_value := g_value) (g_expr := g_expr) (g_frame := g_frame) (b_kind := b_kind) (b_val := b_val) (b_itemSort := b_itemSort) (b_itemA := b_itemA) (b_itemB := b_itemB) (b_itemFrame := b_itemFrame) (b_argExpr := b_argExpr) (b_argFrame := b_argFrame) (df := df) (mt := mt) (D := D) (mp := mp) (L := L) hN hk hq (K := 5) (V := 0) (al := 1) (t := 2) (Or.inr ⟨rfl, by decide, ⟨5, by omega, by omega, rfl⟩, (fun e => absurd e (by decide)), (fun e => absurd e (by decide)), (fun e => absurd e (by decide))⟩)
  unfold wpX_ap
  refine hX _ ?_
  refine gk_eta (K := fun w => wpY_ap (fun r' v' => r' = r ∧ i_Rel (k + 5) w v') (nI df, nI mt, nI D, nI mp, nI L, f_draftTarget, f_result, f_price, f_peak, g_items, g_frames, g_paid, g_high, g_ending, g_outcome, g_giving, g_value, g_expr, g_frame, b_kind, b_val, a_slotUsed, a_slotSize, a_slotArity, a_slotLocals, b_itemSort, b_itemA, b_itemB, b_itemFrame, b_argExpr, b_argFrame)) u' ?_
  show wpY_ap _ (nI df, nI mt, nI D, nI mp, nI L, f_draftTarget, f_result, f_price, f_peak, g_items, g_frames, g_paid, g_high, g_ending, g_outcome, g_giving, g_value, g_expr, g_frame, b_kind, b_val, a_slotUsed, a_slotSize, a_slotArity, a_slotLocals, b_itemSort, b_itemA, b_itemB, b_itemFrame, b_argExpr, b_argFrame)
  unfold wpY_ap
  refine hY _ ?_
  exact gf_eY (K := fun w => r = r ∧ i_Rel (k + 5) u' w) v' ⟨rfl, hI⟩
theorem i_vc_cond {k : Nat} {u : SX} {v : SY} (I : i_Rel k u v) (hk : k + 5 ≤ 2564) : wpX_cond (fun r u' => wpY_cond (fun r' v' => r' = r ∧ i_Rel (k + 5) u' v') v) u := by
  refine gr_el (P := fun u v => wpX_cond (fun r u' => wpY_cond (fun r' v' => r' = r ∧ i_Rel (k + 5) u' v') v) u) ?_ I
  intro f_draftSlot f_slotTokens f_slotRoots f_itemArgument f_itemLeft f_itemRight f_itemChoice f_nodeFresh f_nodeBusy f_nodeNumber f_nodePartial f_modeRead f_modeDemand f_modeEnter f_modeGive f_placeNodes f_draftTarget f_draftMade f_result f_price f_peak f_outcome f_mode f_nowA f_nowB f_items f_marks f_high f_nodes f_frames a_slotUsed a_slotArity a_slotLocals a_slotSize a_tokenKind a_tokenValue a_tokenSpan a_roots a_itemSort a_itemA a_itemB a_markNode a_markPrice a_markBase a_markHigh a_nodeState a_nodeCode a_nodeExtra a_nodePrice a_nodeHeight a_nodeHeld a_frameArgs a_frameLocals g_items g_frames g_paid g_high g_ending g_outcome g_giving g_value g_expr g_frame b_kind b_val b_itemSort b_itemA b_itemB b_itemFrame b_argExpr b_argFrame df mt D mp L hN hk hq
  show wpX_cond (fun r u' => wpY_cond (fun r' v' => r' = r ∧ i_Rel (k + 5) u' v') (nI df, nI mt, nI D, nI mp, nI L, f_draftTarget, f_result, f_price, f_peak, g_items, g_frames, g_paid, g_high, g_ending, g_outcome, g_giving, g_value, g_expr, g_frame, b_kind, b_val, a_slotUsed, a_slotSize, a_slotArity, a_slotLocals, b_itemSort, b_itemA, b_itemB, b_itemFrame, b_argExpr, b_argFrame)) (f_draftSlot, f_slotTokens, f_slotRoots, f_itemArgument, f_itemLeft, f_itemRight, f_itemChoice, f_nodeFresh, f_nodeBusy, f_nodeNumber, f_nodePartial, f_modeRead, f_modeDemand, f_modeEnter, f_modeGive, f_placeNodes, nI df, nI mt, nI D, nI mp, nI L, f_draftTarget, f_draftMade, f_result, f_price, f_peak, f_outcome, f_mode, f_nowA, f_nowB, f_items, f_marks, f_high, f_nodes, f_frames, a_slotUsed, a_slotArity, a_slotLocals, a_slotSize, a_tokenKind, a_tokenValue, a_tokenSpan, a_roots, a_itemSort, a_itemA, a_itemB, a_markNode, a_markPrice, a_markBase, a_markHigh, a_nodeState, a_nodeCode, a_nodeExtra, a_nodePrice, a_nodeHeight, a_nodeHeld, a_frameArgs, a_frameLocals)
  obtain ⟨r, u', v', hI, hX, hY⟩ := ge_add (k := k) (f_draftSlot := f_draftSlot) (f_slotTokens := f_slotTokens) (f_slotRoots := f_slotRoots) (f_itemArgument := f_itemArgument) (f_itemLeft := f_itemLeft) (f_itemRight := f_itemRight) (f_itemChoice := f_itemChoice) (f_nodeFresh := f_nodeFresh) (f_nodeBusy := f_nodeBusy) (f_nodeNumber := f_nodeNumber) (f_nodePartial := f_nodePartial) (f_modeRead := f_modeRead) (f_modeDemand := f_modeDemand) (f_modeEnter := f_modeEnter) (f_modeGive := f_modeGive) (f_placeNodes := f_placeNodes) (f_draftTarget := f_draftTarget) (f_draftMade := f_draftMade) (f_result := f_result) (f_price := f_price) (f_peak := f_peak) (f_outcome := f_outcome) (f_mode := f_mode) (f_nowA := f_nowA) (f_nowB := f_nowB) (f_items := f_items) (f_marks := f_marks) (f_high := f_high) (f_nodes := f_nodes) (f_frames := f_frames) (a_slotUsed := a_slotUsed) (a_slotArity := a_slotArity) (a_slotLocals := a_slotLocals) (a_slotSize := a_slotSize) (a_tokenKind := a_tokenKind) (a_tokenValue := a_tokenValue) (a_tokenSpan := a_tokenSpan) (a_roots := a_roots) (a_itemSort := a_itemSort) (a_itemA := a_itemA) (a_itemB := a_itemB) (a_markNode := a_markNode) (a_markPrice := a_markPrice) (a_markBase := a_markBase) (a_markHigh := a_markHigh) (a_nodeState := a_nodeState) (a_nodeCode := a_nodeCode) (a_nodeExtra := a_nodeExtra) (a_nodePrice := a_nodePrice) (a_nodeHeight := a_nodeHeight) (a_nodeHeld := a_nodeHeld) (a_frameArgs := a_frameArgs) (a_frameLocals := a_frameLocals) (g_items := g_items) (g_frames := g_frames) (g_paid := g_paid) (g_high := g_high) (g_ending := g_ending) (g_outcome := g_outcome) (g_giving := g_giving) (g_value := g_value) (g_expr := g_expr) (g_frame := g_frame) (b_kind := b_kind) (b_val := b_val) (b_itemSort := b_itemSort) (b_itemA := b_itemA) (b_itemB := b_itemB) (b_itemFrame := b_itemFrame) (b_argExpr := b_argExpr) (b_argFrame := b_argFrame) (df := df) (mt := mt) (D := D) (mp := mp) (L := L) hN hk hq (K := 11) (V := 0) (al := 1) (t := 3) (Or.inr ⟨rfl, by decide, ⟨11, by omega, by omega, rfl⟩, (fun e => absurd e (by decide)), (fun e => absurd e (by decide)), (fun e => absurd e (by decide))⟩)
  unfold wpX_cond
  refine hX _ ?_
  refine gk_eta (K := fun w => wpY_cond (fun r' v' => r' = r ∧ i_Rel (k + 5) w v') (nI df, nI mt, nI D, nI mp, nI L, f_draftTarget, f_result, f_price, f_peak, g_items, g_frames, g_paid, g_high, g_ending, g_outcome, g_giving, g_value, g_expr, g_frame, b_kind, b_val, a_slotUsed, a_slotSize, a_slotArity, a_slotLocals, b_itemSort, b_itemA, b_itemB, b_itemFrame, b_argExpr, b_argFrame)) u' ?_
  show wpY_cond _ (nI df, nI mt, nI D, nI mp, nI L, f_draftTarget, f_result, f_price, f_peak, g_items, g_frames, g_paid, g_high, g_ending, g_outcome, g_giving, g_value, g_expr, g_frame, b_kind, b_val, a_slotUsed, a_slotSize, a_slotArity, a_slotLocals, b_itemSort, b_itemA, b_itemB, b_itemFrame, b_argExpr, b_argFrame)
  unfold wpY_cond
  refine hY _ ?_
  exact gf_eY (K := fun w => r = r ∧ i_Rel (k + 5) u' w) v' ⟨rfl, hI⟩
theorem i_vc_arg {k : Nat} {u : SX} {v : SY} (I : i_Rel k u v) (hk : k + 5 ≤ 2564) (v1 : Int32) : wpX_arg (fun r u' => wpY_arg (fun r' v' => r' = r ∧ i_Rel (k + 5) u' v') v v1) u v1 := by
  refine gr_el (P := fun u v => wpX_arg (fun r u' => wpY_arg (fun r' v' => r' = r ∧ i_Rel (k + 5) u' v') v v1) u v1) ?_ I
  intro f_draftSlot f_slotTokens f_slotRoots f_itemArgument f_itemLeft f_itemRight f_itemChoice f_nodeFresh f_nodeBusy f_nodeNumber f_nodePartial f_modeRead f_modeDemand f_modeEnter f_modeGive f_placeNodes f_draftTarget f_draftMade f_result f_price f_peak f_outcome f_mode f_nowA f_nowB f_items f_marks f_high f_nodes f_frames a_slotUsed a_slotArity a_slotLocals a_slotSize a_tokenKind a_tokenValue a_tokenSpan a_roots a_itemSort a_itemA a_itemB a_markNode a_markPrice a_markBase a_markHigh a_nodeState a_nodeCode a_nodeExtra a_nodePrice a_nodeHeight a_nodeHeld a_frameArgs a_frameLocals g_items g_frames g_paid g_high g_ending g_outcome g_giving g_value g_expr g_frame b_kind b_val b_itemSort b_itemA b_itemB b_itemFrame b_argExpr b_argFrame df mt D mp L hN hk hq
  show wpX_arg (fun r u' => wpY_arg (fun r' v' => r' = r ∧ i_Rel (k + 5) u' v') (nI df, nI mt, nI D, nI mp, nI L, f_draftTarget, f_result, f_price, f_peak, g_items, g_frames, g_paid, g_high, g_ending, g_outcome, g_giving, g_value, g_expr, g_frame, b_kind, b_val, a_slotUsed, a_slotSize, a_slotArity, a_slotLocals, b_itemSort, b_itemA, b_itemB, b_itemFrame, b_argExpr, b_argFrame) v1) (f_draftSlot, f_slotTokens, f_slotRoots, f_itemArgument, f_itemLeft, f_itemRight, f_itemChoice, f_nodeFresh, f_nodeBusy, f_nodeNumber, f_nodePartial, f_modeRead, f_modeDemand, f_modeEnter, f_modeGive, f_placeNodes, nI df, nI mt, nI D, nI mp, nI L, f_draftTarget, f_draftMade, f_result, f_price, f_peak, f_outcome, f_mode, f_nowA, f_nowB, f_items, f_marks, f_high, f_nodes, f_frames, a_slotUsed, a_slotArity, a_slotLocals, a_slotSize, a_tokenKind, a_tokenValue, a_tokenSpan, a_roots, a_itemSort, a_itemA, a_itemB, a_markNode, a_markPrice, a_markBase, a_markHigh, a_nodeState, a_nodeCode, a_nodeExtra, a_nodePrice, a_nodeHeight, a_nodeHeld, a_frameArgs, a_frameLocals) v1
  unfold wpX_arg
  by_cases g : v1 < 0
  · obtain ⟨r, u', v', hI, hX, hY⟩ := ge_add (k := k) (f_draftSlot := f_draftSlot) (f_slotTokens := f_slotTokens) (f_slotRoots := f_slotRoots) (f_itemArgument := f_itemArgument) (f_itemLeft := f_itemLeft) (f_itemRight := f_itemRight) (f_itemChoice := f_itemChoice) (f_nodeFresh := f_nodeFresh) (f_nodeBusy := f_nodeBusy) (f_nodeNumber := f_nodeNumber) (f_nodePartial := f_nodePartial) (f_modeRead := f_modeRead) (f_modeDemand := f_modeDemand) (f_modeEnter := f_modeEnter) (f_modeGive := f_modeGive) (f_placeNodes := f_placeNodes) (f_draftTarget := f_draftTarget) (f_draftMade := f_draftMade) (f_result := f_result) (f_price := f_price) (f_peak := f_peak) (f_outcome := f_outcome) (f_mode := f_mode) (f_nowA := f_nowA) (f_nowB := f_nowB) (f_items := f_items) (f_marks := f_marks) (f_high := f_high) (f_nodes := f_nodes) (f_frames := f_frames) (a_slotUsed := a_slotUsed) (a_slotArity := a_slotArity) (a_slotLocals := a_slotLocals) (a_slotSize := a_slotSize) (a_tokenKind := a_tokenKind) (a_tokenValue := a_tokenValue) (a_tokenSpan := a_tokenSpan) (a_roots := a_roots) (a_itemSort := a_itemSort) (a_itemA := a_itemA) (a_itemB := a_itemB) (a_markNode := a_markNode) (a_markPrice := a_markPrice) (a_markBase := a_markBase) (a_markHigh := a_markHigh) (a_nodeState := a_nodeState) (a_nodeCode := a_nodeCode) (a_nodeExtra := a_nodeExtra) (a_nodePrice := a_nodePrice) (a_nodeHeight := a_nodeHeight) (a_nodeHeld := a_nodeHeld) (a_frameArgs := a_frameArgs) (a_frameLocals := a_frameLocals) (g_items := g_items) (g_frames := g_frames) (g_paid := g_paid) (g_high := g_high) (g_ending := g_ending) (g_outcome := g_outcome) (g_giving := g_giving) (g_value := g_value) (g_expr := g_expr) (g_frame := g_frame) (b_kind := b_kind) (b_val := b_val) (b_itemSort := b_itemSort) (b_itemA := b_itemA) (b_itemB := b_itemB) (b_itemFrame := b_itemFrame) (b_argExpr := b_argExpr) (b_argFrame := b_argFrame) (df := df) (mt := mt) (D := D) (mp := mp) (L := L) hN hk hq (K := 2) (V := v1) (al := 0) (t := 0) (Or.inl rfl)
    refine br_t g ?_
    unfold wX_arg_19 wX_arg_20
    refine hX _ ?_
    refine gk_eta (K := fun w => wpY_arg (fun r' v' => r' = r ∧ i_Rel (k + 5) w v') (nI df, nI mt, nI D, nI mp, nI L, f_draftTarget, f_result, f_price, f_peak, g_items, g_frames, g_paid, g_high, g_ending, g_outcome, g_giving, g_value, g_expr, g_frame, b_kind, b_val, a_slotUsed, a_slotSize, a_slotArity, a_slotLocals, b_itemSort, b_itemA, b_itemB, b_itemFrame, b_argExpr, b_argFrame) v1) u' ?_
    show wpY_arg _ (nI df, nI mt, nI D, nI mp, nI L, f_draftTarget, f_result, f_price, f_peak, g_items, g_frames, g_paid, g_high, g_ending, g_outcome, g_giving, g_value, g_expr, g_frame, b_kind, b_val, a_slotUsed, a_slotSize, a_slotArity, a_slotLocals, b_itemSort, b_itemA, b_itemB, b_itemFrame, b_argExpr, b_argFrame) v1
    unfold wpY_arg
    refine br_t g ?_
    unfold wY_arg_22 wY_arg_23
    refine hY _ ?_
    exact gf_eY (K := fun w => r = r ∧ i_Rel (k + 5) u' w) v' ⟨rfl, hI⟩
  by_cases g2 : a_slotArity 8 ≤ v1
  · obtain ⟨r, u', v', hI, hX, hY⟩ := ge_add (k := k) (f_draftSlot := f_draftSlot) (f_slotTokens := f_slotTokens) (f_slotRoots := f_slotRoots) (f_itemArgument := f_itemArgument) (f_itemLeft := f_itemLeft) (f_itemRight := f_itemRight) (f_itemChoice := f_itemChoice) (f_nodeFresh := f_nodeFresh) (f_nodeBusy := f_nodeBusy) (f_nodeNumber := f_nodeNumber) (f_nodePartial := f_nodePartial) (f_modeRead := f_modeRead) (f_modeDemand := f_modeDemand) (f_modeEnter := f_modeEnter) (f_modeGive := f_modeGive) (f_placeNodes := f_placeNodes) (f_draftTarget := f_draftTarget) (f_draftMade := f_draftMade) (f_result := f_result) (f_price := f_price) (f_peak := f_peak) (f_outcome := f_outcome) (f_mode := f_mode) (f_nowA := f_nowA) (f_nowB := f_nowB) (f_items := f_items) (f_marks := f_marks) (f_high := f_high) (f_nodes := f_nodes) (f_frames := f_frames) (a_slotUsed := a_slotUsed) (a_slotArity := a_slotArity) (a_slotLocals := a_slotLocals) (a_slotSize := a_slotSize) (a_tokenKind := a_tokenKind) (a_tokenValue := a_tokenValue) (a_tokenSpan := a_tokenSpan) (a_roots := a_roots) (a_itemSort := a_itemSort) (a_itemA := a_itemA) (a_itemB := a_itemB) (a_markNode := a_markNode) (a_markPrice := a_markPrice) (a_markBase := a_markBase) (a_markHigh := a_markHigh) (a_nodeState := a_nodeState) (a_nodeCode := a_nodeCode) (a_nodeExtra := a_nodeExtra) (a_nodePrice := a_nodePrice) (a_nodeHeight := a_nodeHeight) (a_nodeHeld := a_nodeHeld) (a_frameArgs := a_frameArgs) (a_frameLocals := a_frameLocals) (g_items := g_items) (g_frames := g_frames) (g_paid := g_paid) (g_high := g_high) (g_ending := g_ending) (g_outcome := g_outcome) (g_giving := g_giving) (g_value := g_value) (g_expr := g_expr) (g_frame := g_frame) (b_kind := b_kind) (b_val := b_val) (b_itemSort := b_itemSort) (b_itemA := b_itemA) (b_itemB := b_itemB) (b_itemFrame := b_itemFrame) (b_argExpr := b_argExpr) (b_argFrame := b_argFrame) (df := df) (mt := mt) (D := D) (mp := mp) (L := L) hN hk hq (K := 2) (V := v1) (al := 0) (t := 0) (Or.inl rfl)
    refine br_f g (br_t g2 ?_)
    unfold wX_arg_19 wX_arg_20
    refine hX _ ?_
    refine gk_eta (K := fun w => wpY_arg (fun r' v' => r' = r ∧ i_Rel (k + 5) w v') (nI df, nI mt, nI D, nI mp, nI L, f_draftTarget, f_result, f_price, f_peak, g_items, g_frames, g_paid, g_high, g_ending, g_outcome, g_giving, g_value, g_expr, g_frame, b_kind, b_val, a_slotUsed, a_slotSize, a_slotArity, a_slotLocals, b_itemSort, b_itemA, b_itemB, b_itemFrame, b_argExpr, b_argFrame) v1) u' ?_
    show wpY_arg _ (nI df, nI mt, nI D, nI mp, nI L, f_draftTarget, f_result, f_price, f_peak, g_items, g_frames, g_paid, g_high, g_ending, g_outcome, g_giving, g_value, g_expr, g_frame, b_kind, b_val, a_slotUsed, a_slotSize, a_slotArity, a_slotLocals, b_itemSort, b_itemA, b_itemB, b_itemFrame, b_argExpr, b_argFrame) v1
    unfold wpY_arg
    refine br_f g (br_t g2 ?_)
    unfold wY_arg_22 wY_arg_23
    refine hY _ ?_
    exact gf_eY (K := fun w => r = r ∧ i_Rel (k + 5) u' w) v' ⟨rfl, hI⟩
  · obtain ⟨r, u', v', hI, hX, hY⟩ := ge_add (k := k) (f_draftSlot := f_draftSlot) (f_slotTokens := f_slotTokens) (f_slotRoots := f_slotRoots) (f_itemArgument := f_itemArgument) (f_itemLeft := f_itemLeft) (f_itemRight := f_itemRight) (f_itemChoice := f_itemChoice) (f_nodeFresh := f_nodeFresh) (f_nodeBusy := f_nodeBusy) (f_nodeNumber := f_nodeNumber) (f_nodePartial := f_nodePartial) (f_modeRead := f_modeRead) (f_modeDemand := f_modeDemand) (f_modeEnter := f_modeEnter) (f_modeGive := f_modeGive) (f_placeNodes := f_placeNodes) (f_draftTarget := f_draftTarget) (f_draftMade := f_draftMade) (f_result := f_result) (f_price := f_price) (f_peak := f_peak) (f_outcome := f_outcome) (f_mode := f_mode) (f_nowA := f_nowA) (f_nowB := f_nowB) (f_items := f_items) (f_marks := f_marks) (f_high := f_high) (f_nodes := f_nodes) (f_frames := f_frames) (a_slotUsed := a_slotUsed) (a_slotArity := a_slotArity) (a_slotLocals := a_slotLocals) (a_slotSize := a_slotSize) (a_tokenKind := a_tokenKind) (a_tokenValue := a_tokenValue) (a_tokenSpan := a_tokenSpan) (a_roots := a_roots) (a_itemSort := a_itemSort) (a_itemA := a_itemA) (a_itemB := a_itemB) (a_markNode := a_markNode) (a_markPrice := a_markPrice) (a_markBase := a_markBase) (a_markHigh := a_markHigh) (a_nodeState := a_nodeState) (a_nodeCode := a_nodeCode) (a_nodeExtra := a_nodeExtra) (a_nodePrice := a_nodePrice) (a_nodeHeight := a_nodeHeight) (a_nodeHeld := a_nodeHeld) (a_frameArgs := a_frameArgs) (a_frameLocals := a_frameLocals) (g_items := g_items) (g_frames := g_frames) (g_paid := g_paid) (g_high := g_high) (g_ending := g_ending) (g_outcome := g_outcome) (g_giving := g_giving) (g_value := g_value) (g_expr := g_expr) (g_frame := g_frame) (b_kind := b_kind) (b_val := b_val) (b_itemSort := b_itemSort) (b_itemA := b_itemA) (b_itemB := b_itemB) (b_itemFrame := b_itemFrame) (b_argExpr := b_argExpr) (b_argFrame := b_argFrame) (df := df) (mt := mt) (D := D) (mp := mp) (L := L) hN hk hq (K := 2) (V := v1) (al := 1) (t := 0) (Or.inr ⟨rfl, by decide, ⟨2, by omega, by omega, rfl⟩, (fun _ => ⟨g, g2⟩), (fun e => absurd e (by decide)), (fun e => absurd e (by decide))⟩)
    refine br_f g (br_f g2 ?_)
    unfold wX_arg_20
    refine hX _ ?_
    refine gk_eta (K := fun w => wpY_arg (fun r' v' => r' = r ∧ i_Rel (k + 5) w v') (nI df, nI mt, nI D, nI mp, nI L, f_draftTarget, f_result, f_price, f_peak, g_items, g_frames, g_paid, g_high, g_ending, g_outcome, g_giving, g_value, g_expr, g_frame, b_kind, b_val, a_slotUsed, a_slotSize, a_slotArity, a_slotLocals, b_itemSort, b_itemA, b_itemB, b_itemFrame, b_argExpr, b_argFrame) v1) u' ?_
    show wpY_arg _ (nI df, nI mt, nI D, nI mp, nI L, f_draftTarget, f_result, f_price, f_peak, g_items, g_frames, g_paid, g_high, g_ending, g_outcome, g_giving, g_value, g_expr, g_frame, b_kind, b_val, a_slotUsed, a_slotSize, a_slotArity, a_slotLocals, b_itemSort, b_itemA, b_itemB, b_itemFrame, b_argExpr, b_argFrame) v1
    unfold wpY_arg
    refine br_f g (br_f g2 ?_)
    unfold wY_arg_23
    refine hY _ ?_
    exact gf_eY (K := fun w => r = r ∧ i_Rel (k + 5) u' w) v' ⟨rfl, hI⟩
theorem i_vc_local {k : Nat} {u : SX} {v : SY} (I : i_Rel k u v) (hk : k + 5 ≤ 2564) (v1 : Int32) : wpX_local (fun r u' => wpY_local (fun r' v' => r' = r ∧ i_Rel (k + 5) u' v') v v1) u v1 := by
  refine gr_el (P := fun u v => wpX_local (fun r u' => wpY_local (fun r' v' => r' = r ∧ i_Rel (k + 5) u' v') v v1) u v1) ?_ I
  intro f_draftSlot f_slotTokens f_slotRoots f_itemArgument f_itemLeft f_itemRight f_itemChoice f_nodeFresh f_nodeBusy f_nodeNumber f_nodePartial f_modeRead f_modeDemand f_modeEnter f_modeGive f_placeNodes f_draftTarget f_draftMade f_result f_price f_peak f_outcome f_mode f_nowA f_nowB f_items f_marks f_high f_nodes f_frames a_slotUsed a_slotArity a_slotLocals a_slotSize a_tokenKind a_tokenValue a_tokenSpan a_roots a_itemSort a_itemA a_itemB a_markNode a_markPrice a_markBase a_markHigh a_nodeState a_nodeCode a_nodeExtra a_nodePrice a_nodeHeight a_nodeHeld a_frameArgs a_frameLocals g_items g_frames g_paid g_high g_ending g_outcome g_giving g_value g_expr g_frame b_kind b_val b_itemSort b_itemA b_itemB b_itemFrame b_argExpr b_argFrame df mt D mp L hN hk hq
  show wpX_local (fun r u' => wpY_local (fun r' v' => r' = r ∧ i_Rel (k + 5) u' v') (nI df, nI mt, nI D, nI mp, nI L, f_draftTarget, f_result, f_price, f_peak, g_items, g_frames, g_paid, g_high, g_ending, g_outcome, g_giving, g_value, g_expr, g_frame, b_kind, b_val, a_slotUsed, a_slotSize, a_slotArity, a_slotLocals, b_itemSort, b_itemA, b_itemB, b_itemFrame, b_argExpr, b_argFrame) v1) (f_draftSlot, f_slotTokens, f_slotRoots, f_itemArgument, f_itemLeft, f_itemRight, f_itemChoice, f_nodeFresh, f_nodeBusy, f_nodeNumber, f_nodePartial, f_modeRead, f_modeDemand, f_modeEnter, f_modeGive, f_placeNodes, nI df, nI mt, nI D, nI mp, nI L, f_draftTarget, f_draftMade, f_result, f_price, f_peak, f_outcome, f_mode, f_nowA, f_nowB, f_items, f_marks, f_high, f_nodes, f_frames, a_slotUsed, a_slotArity, a_slotLocals, a_slotSize, a_tokenKind, a_tokenValue, a_tokenSpan, a_roots, a_itemSort, a_itemA, a_itemB, a_markNode, a_markPrice, a_markBase, a_markHigh, a_nodeState, a_nodeCode, a_nodeExtra, a_nodePrice, a_nodeHeight, a_nodeHeld, a_frameArgs, a_frameLocals) v1
  unfold wpX_local
  by_cases g : v1 < 0
  · obtain ⟨r, u', v', hI, hX, hY⟩ := ge_add (k := k) (f_draftSlot := f_draftSlot) (f_slotTokens := f_slotTokens) (f_slotRoots := f_slotRoots) (f_itemArgument := f_itemArgument) (f_itemLeft := f_itemLeft) (f_itemRight := f_itemRight) (f_itemChoice := f_itemChoice) (f_nodeFresh := f_nodeFresh) (f_nodeBusy := f_nodeBusy) (f_nodeNumber := f_nodeNumber) (f_nodePartial := f_nodePartial) (f_modeRead := f_modeRead) (f_modeDemand := f_modeDemand) (f_modeEnter := f_modeEnter) (f_modeGive := f_modeGive) (f_placeNodes := f_placeNodes) (f_draftTarget := f_draftTarget) (f_draftMade := f_draftMade) (f_result := f_result) (f_price := f_price) (f_peak := f_peak) (f_outcome := f_outcome) (f_mode := f_mode) (f_nowA := f_nowA) (f_nowB := f_nowB) (f_items := f_items) (f_marks := f_marks) (f_high := f_high) (f_nodes := f_nodes) (f_frames := f_frames) (a_slotUsed := a_slotUsed) (a_slotArity := a_slotArity) (a_slotLocals := a_slotLocals) (a_slotSize := a_slotSize) (a_tokenKind := a_tokenKind) (a_tokenValue := a_tokenValue) (a_tokenSpan := a_tokenSpan) (a_roots := a_roots) (a_itemSort := a_itemSort) (a_itemA := a_itemA) (a_itemB := a_itemB) (a_markNode := a_markNode) (a_markPrice := a_markPrice) (a_markBase := a_markBase) (a_markHigh := a_markHigh) (a_nodeState := a_nodeState) (a_nodeCode := a_nodeCode) (a_nodeExtra := a_nodeExtra) (a_nodePrice := a_nodePrice) (a_nodeHeight := a_nodeHeight) (a_nodeHeld := a_nodeHeld) (a_frameArgs := a_frameArgs) (a_frameLocals := a_frameLocals) (g_items := g_items) (g_frames := g_frames) (g_paid := g_paid) (g_high := g_high) (g_ending := g_ending) (g_outcome := g_outcome) (g_giving := g_giving) (g_value := g_value) (g_expr := g_expr) (g_frame := g_frame) (b_kind := b_kind) (b_val := b_val) (b_itemSort := b_itemSort) (b_itemA := b_itemA) (b_itemB := b_itemB) (b_itemFrame := b_itemFrame) (b_argExpr := b_argExpr) (b_argFrame := b_argFrame) (df := df) (mt := mt) (D := D) (mp := mp) (L := L) hN hk hq (K := 3) (V := v1) (al := 0) (t := 0) (Or.inl rfl)
    refine br_t g ?_
    unfold wX_local_19 wX_local_20
    refine hX _ ?_
    refine gk_eta (K := fun w => wpY_local (fun r' v' => r' = r ∧ i_Rel (k + 5) w v') (nI df, nI mt, nI D, nI mp, nI L, f_draftTarget, f_result, f_price, f_peak, g_items, g_frames, g_paid, g_high, g_ending, g_outcome, g_giving, g_value, g_expr, g_frame, b_kind, b_val, a_slotUsed, a_slotSize, a_slotArity, a_slotLocals, b_itemSort, b_itemA, b_itemB, b_itemFrame, b_argExpr, b_argFrame) v1) u' ?_
    show wpY_local _ (nI df, nI mt, nI D, nI mp, nI L, f_draftTarget, f_result, f_price, f_peak, g_items, g_frames, g_paid, g_high, g_ending, g_outcome, g_giving, g_value, g_expr, g_frame, b_kind, b_val, a_slotUsed, a_slotSize, a_slotArity, a_slotLocals, b_itemSort, b_itemA, b_itemB, b_itemFrame, b_argExpr, b_argFrame) v1
    unfold wpY_local
    refine br_t g ?_
    unfold wY_local_22 wY_local_23
    refine hY _ ?_
    exact gf_eY (K := fun w => r = r ∧ i_Rel (k + 5) u' w) v' ⟨rfl, hI⟩
  by_cases g2 : a_slotLocals 8 ≤ v1
  · obtain ⟨r, u', v', hI, hX, hY⟩ := ge_add (k := k) (f_draftSlot := f_draftSlot) (f_slotTokens := f_slotTokens) (f_slotRoots := f_slotRoots) (f_itemArgument := f_itemArgument) (f_itemLeft := f_itemLeft) (f_itemRight := f_itemRight) (f_itemChoice := f_itemChoice) (f_nodeFresh := f_nodeFresh) (f_nodeBusy := f_nodeBusy) (f_nodeNumber := f_nodeNumber) (f_nodePartial := f_nodePartial) (f_modeRead := f_modeRead) (f_modeDemand := f_modeDemand) (f_modeEnter := f_modeEnter) (f_modeGive := f_modeGive) (f_placeNodes := f_placeNodes) (f_draftTarget := f_draftTarget) (f_draftMade := f_draftMade) (f_result := f_result) (f_price := f_price) (f_peak := f_peak) (f_outcome := f_outcome) (f_mode := f_mode) (f_nowA := f_nowA) (f_nowB := f_nowB) (f_items := f_items) (f_marks := f_marks) (f_high := f_high) (f_nodes := f_nodes) (f_frames := f_frames) (a_slotUsed := a_slotUsed) (a_slotArity := a_slotArity) (a_slotLocals := a_slotLocals) (a_slotSize := a_slotSize) (a_tokenKind := a_tokenKind) (a_tokenValue := a_tokenValue) (a_tokenSpan := a_tokenSpan) (a_roots := a_roots) (a_itemSort := a_itemSort) (a_itemA := a_itemA) (a_itemB := a_itemB) (a_markNode := a_markNode) (a_markPrice := a_markPrice) (a_markBase := a_markBase) (a_markHigh := a_markHigh) (a_nodeState := a_nodeState) (a_nodeCode := a_nodeCode) (a_nodeExtra := a_nodeExtra) (a_nodePrice := a_nodePrice) (a_nodeHeight := a_nodeHeight) (a_nodeHeld := a_nodeHeld) (a_frameArgs := a_frameArgs) (a_frameLocals := a_frameLocals) (g_items := g_items) (g_frames := g_frames) (g_paid := g_paid) (g_high := g_high) (g_ending := g_ending) (g_outcome := g_outcome) (g_giving := g_giving) (g_value := g_value) (g_expr := g_expr) (g_frame := g_frame) (b_kind := b_kind) (b_val := b_val) (b_itemSort := b_itemSort) (b_itemA := b_itemA) (b_itemB := b_itemB) (b_itemFrame := b_itemFrame) (b_argExpr := b_argExpr) (b_argFrame := b_argFrame) (df := df) (mt := mt) (D := D) (mp := mp) (L := L) hN hk hq (K := 3) (V := v1) (al := 0) (t := 0) (Or.inl rfl)
    refine br_f g (br_t g2 ?_)
    unfold wX_local_19 wX_local_20
    refine hX _ ?_
    refine gk_eta (K := fun w => wpY_local (fun r' v' => r' = r ∧ i_Rel (k + 5) w v') (nI df, nI mt, nI D, nI mp, nI L, f_draftTarget, f_result, f_price, f_peak, g_items, g_frames, g_paid, g_high, g_ending, g_outcome, g_giving, g_value, g_expr, g_frame, b_kind, b_val, a_slotUsed, a_slotSize, a_slotArity, a_slotLocals, b_itemSort, b_itemA, b_itemB, b_itemFrame, b_argExpr, b_argFrame) v1) u' ?_
    show wpY_local _ (nI df, nI mt, nI D, nI mp, nI L, f_draftTarget, f_result, f_price, f_peak, g_items, g_frames, g_paid, g_high, g_ending, g_outcome, g_giving, g_value, g_expr, g_frame, b_kind, b_val, a_slotUsed, a_slotSize, a_slotArity, a_slotLocals, b_itemSort, b_itemA, b_itemB, b_itemFrame, b_argExpr, b_argFrame) v1
    unfold wpY_local
    refine br_f g (br_t g2 ?_)
    unfold wY_local_22 wY_local_23
    refine hY _ ?_
    exact gf_eY (K := fun w => r = r ∧ i_Rel (k + 5) u' w) v' ⟨rfl, hI⟩
  · obtain ⟨r, u', v', hI, hX, hY⟩ := ge_add (k := k) (f_draftSlot := f_draftSlot) (f_slotTokens := f_slotTokens) (f_slotRoots := f_slotRoots) (f_itemArgument := f_itemArgument) (f_itemLeft := f_itemLeft) (f_itemRight := f_itemRight) (f_itemChoice := f_itemChoice) (f_nodeFresh := f_nodeFresh) (f_nodeBusy := f_nodeBusy) (f_nodeNumber := f_nodeNumber) (f_nodePartial := f_nodePartial) (f_modeRead := f_modeRead) (f_modeDemand := f_modeDemand) (f_modeEnter := f_modeEnter) (f_modeGive := f_modeGive) (f_placeNodes := f_placeNodes) (f_draftTarget := f_draftTarget) (f_draftMade := f_draftMade) (f_result := f_result) (f_price := f_price) (f_peak := f_peak) (f_outcome := f_outcome) (f_mode := f_mode) (f_nowA := f_nowA) (f_nowB := f_nowB) (f_items := f_items) (f_marks := f_marks) (f_high := f_high) (f_nodes := f_nodes) (f_frames := f_frames) (a_slotUsed := a_slotUsed) (a_slotArity := a_slotArity) (a_slotLocals := a_slotLocals) (a_slotSize := a_slotSize) (a_tokenKind := a_tokenKind) (a_tokenValue := a_tokenValue) (a_tokenSpan := a_tokenSpan) (a_roots := a_roots) (a_itemSort := a_itemSort) (a_itemA := a_itemA) (a_itemB := a_itemB) (a_markNode := a_markNode) (a_markPrice := a_markPrice) (a_markBase := a_markBase) (a_markHigh := a_markHigh) (a_nodeState := a_nodeState) (a_nodeCode := a_nodeCode) (a_nodeExtra := a_nodeExtra) (a_nodePrice := a_nodePrice) (a_nodeHeight := a_nodeHeight) (a_nodeHeld := a_nodeHeld) (a_frameArgs := a_frameArgs) (a_frameLocals := a_frameLocals) (g_items := g_items) (g_frames := g_frames) (g_paid := g_paid) (g_high := g_high) (g_ending := g_ending) (g_outcome := g_outcome) (g_giving := g_giving) (g_value := g_value) (g_expr := g_expr) (g_frame := g_frame) (b_kind := b_kind) (b_val := b_val) (b_itemSort := b_itemSort) (b_itemA := b_itemA) (b_itemB := b_itemB) (b_itemFrame := b_itemFrame) (b_argExpr := b_argExpr) (b_argFrame := b_argFrame) (df := df) (mt := mt) (D := D) (mp := mp) (L := L) hN hk hq (K := 3) (V := v1) (al := 1) (t := 0) (Or.inr ⟨rfl, by decide, ⟨3, by omega, by omega, rfl⟩, (fun e => absurd e (by decide)), (fun _ => ⟨g, g2⟩), (fun e => absurd e (by decide))⟩)
    refine br_f g (br_f g2 ?_)
    unfold wX_local_20
    refine hX _ ?_
    refine gk_eta (K := fun w => wpY_local (fun r' v' => r' = r ∧ i_Rel (k + 5) w v') (nI df, nI mt, nI D, nI mp, nI L, f_draftTarget, f_result, f_price, f_peak, g_items, g_frames, g_paid, g_high, g_ending, g_outcome, g_giving, g_value, g_expr, g_frame, b_kind, b_val, a_slotUsed, a_slotSize, a_slotArity, a_slotLocals, b_itemSort, b_itemA, b_itemB, b_itemFrame, b_argExpr, b_argFrame) v1) u' ?_
    show wpY_local _ (nI df, nI mt, nI D, nI mp, nI L, f_draftTarget, f_result, f_price, f_peak, g_items, g_frames, g_paid, g_high, g_ending, g_outcome, g_giving, g_value, g_expr, g_frame, b_kind, b_val, a_slotUsed, a_slotSize, a_slotArity, a_slotLocals, b_itemSort, b_itemA, b_itemB, b_itemFrame, b_argExpr, b_argFrame) v1
    unfold wpY_local
    refine br_f g (br_f g2 ?_)
    unfold wY_local_23
    refine hY _ ?_
    exact gf_eY (K := fun w => r = r ∧ i_Rel (k + 5) u' w) v' ⟨rfl, hI⟩
theorem i_vc_global {k : Nat} {u : SX} {v : SY} (I : i_Rel k u v) (hk : k + 5 ≤ 2564) (v1 : Int32) : wpX_global (fun r u' => wpY_global (fun r' v' => r' = r ∧ i_Rel (k + 5) u' v') v v1) u v1 := by
  refine gr_el (P := fun u v => wpX_global (fun r u' => wpY_global (fun r' v' => r' = r ∧ i_Rel (k + 5) u' v') v v1) u v1) ?_ I
  intro f_draftSlot f_slotTokens f_slotRoots f_itemArgument f_itemLeft f_itemRight f_itemChoice f_nodeFresh f_nodeBusy f_nodeNumber f_nodePartial f_modeRead f_modeDemand f_modeEnter f_modeGive f_placeNodes f_draftTarget f_draftMade f_result f_price f_peak f_outcome f_mode f_nowA f_nowB f_items f_marks f_high f_nodes f_frames a_slotUsed a_slotArity a_slotLocals a_slotSize a_tokenKind a_tokenValue a_tokenSpan a_roots a_itemSort a_itemA a_itemB a_markNode a_markPrice a_markBase a_markHigh a_nodeState a_nodeCode a_nodeExtra a_nodePrice a_nodeHeight a_nodeHeld a_frameArgs a_frameLocals g_items g_frames g_paid g_high g_ending g_outcome g_giving g_value g_expr g_frame b_kind b_val b_itemSort b_itemA b_itemB b_itemFrame b_argExpr b_argFrame df mt D mp L hN hk hq
  show wpX_global (fun r u' => wpY_global (fun r' v' => r' = r ∧ i_Rel (k + 5) u' v') (nI df, nI mt, nI D, nI mp, nI L, f_draftTarget, f_result, f_price, f_peak, g_items, g_frames, g_paid, g_high, g_ending, g_outcome, g_giving, g_value, g_expr, g_frame, b_kind, b_val, a_slotUsed, a_slotSize, a_slotArity, a_slotLocals, b_itemSort, b_itemA, b_itemB, b_itemFrame, b_argExpr, b_argFrame) v1) (f_draftSlot, f_slotTokens, f_slotRoots, f_itemArgument, f_itemLeft, f_itemRight, f_itemChoice, f_nodeFresh, f_nodeBusy, f_nodeNumber, f_nodePartial, f_modeRead, f_modeDemand, f_modeEnter, f_modeGive, f_placeNodes, nI df, nI mt, nI D, nI mp, nI L, f_draftTarget, f_draftMade, f_result, f_price, f_peak, f_outcome, f_mode, f_nowA, f_nowB, f_items, f_marks, f_high, f_nodes, f_frames, a_slotUsed, a_slotArity, a_slotLocals, a_slotSize, a_tokenKind, a_tokenValue, a_tokenSpan, a_roots, a_itemSort, a_itemA, a_itemB, a_markNode, a_markPrice, a_markBase, a_markHigh, a_nodeState, a_nodeCode, a_nodeExtra, a_nodePrice, a_nodeHeight, a_nodeHeld, a_frameArgs, a_frameLocals) v1
  unfold wpX_global
  have hdf := hN.2.1
  rcases gr_ix v1 hdf with hx | ⟨j, hj, rfl⟩
  · obtain ⟨r, u', v', hI, hX, hY⟩ := ge_add (k := k) (f_draftSlot := f_draftSlot) (f_slotTokens := f_slotTokens) (f_slotRoots := f_slotRoots) (f_itemArgument := f_itemArgument) (f_itemLeft := f_itemLeft) (f_itemRight := f_itemRight) (f_itemChoice := f_itemChoice) (f_nodeFresh := f_nodeFresh) (f_nodeBusy := f_nodeBusy) (f_nodeNumber := f_nodeNumber) (f_nodePartial := f_nodePartial) (f_modeRead := f_modeRead) (f_modeDemand := f_modeDemand) (f_modeEnter := f_modeEnter) (f_modeGive := f_modeGive) (f_placeNodes := f_placeNodes) (f_draftTarget := f_draftTarget) (f_draftMade := f_draftMade) (f_result := f_result) (f_price := f_price) (f_peak := f_peak) (f_outcome := f_outcome) (f_mode := f_mode) (f_nowA := f_nowA) (f_nowB := f_nowB) (f_items := f_items) (f_marks := f_marks) (f_high := f_high) (f_nodes := f_nodes) (f_frames := f_frames) (a_slotUsed := a_slotUsed) (a_slotArity := a_slotArity) (a_slotLocals := a_slotLocals) (a_slotSize := a_slotSize) (a_tokenKind := a_tokenKind) (a_tokenValue := a_tokenValue) (a_tokenSpan := a_tokenSpan) (a_roots := a_roots) (a_itemSort := a_itemSort) (a_itemA := a_itemA) (a_itemB := a_itemB) (a_markNode := a_markNode) (a_markPrice := a_markPrice) (a_markBase := a_markBase) (a_markHigh := a_markHigh) (a_nodeState := a_nodeState) (a_nodeCode := a_nodeCode) (a_nodeExtra := a_nodeExtra) (a_nodePrice := a_nodePrice) (a_nodeHeight := a_nodeHeight) (a_nodeHeld := a_nodeHeld) (a_frameArgs := a_frameArgs) (a_frameLocals := a_frameLocals) (g_items := g_items) (g_frames := g_frames) (g_paid := g_paid) (g_high := g_high) (g_ending := g_ending) (g_outcome := g_outcome) (g_giving := g_giving) (g_value := g_value) (g_expr := g_expr) (g_frame := g_frame) (b_kind := b_kind) (b_val := b_val) (b_itemSort := b_itemSort) (b_itemA := b_itemA) (b_itemB := b_itemB) (b_itemFrame := b_itemFrame) (b_argExpr := b_argExpr) (b_argFrame := b_argFrame) (df := df) (mt := mt) (D := D) (mp := mp) (L := L) hN hk hq (K := 4) (V := v1) (al := 0) (t := 0) (Or.inl rfl)
    refine gn_pl0 hx ?_
    refine hX _ ?_
    refine gk_eta (K := fun w => wpY_global (fun r' v' => r' = r ∧ i_Rel (k + 5) w v') (nI df, nI mt, nI D, nI mp, nI L, f_draftTarget, f_result, f_price, f_peak, g_items, g_frames, g_paid, g_high, g_ending, g_outcome, g_giving, g_value, g_expr, g_frame, b_kind, b_val, a_slotUsed, a_slotSize, a_slotArity, a_slotLocals, b_itemSort, b_itemA, b_itemB, b_itemFrame, b_argExpr, b_argFrame) v1) u' ?_
    show wpY_global _ (nI df, nI mt, nI D, nI mp, nI L, f_draftTarget, f_result, f_price, f_peak, g_items, g_frames, g_paid, g_high, g_ending, g_outcome, g_giving, g_value, g_expr, g_frame, b_kind, b_val, a_slotUsed, a_slotSize, a_slotArity, a_slotLocals, b_itemSort, b_itemA, b_itemB, b_itemFrame, b_argExpr, b_argFrame) v1
    unfold wpY_global
    refine gr_z0 hx ?_
    unfold wY_global_19 wY_global_20
    refine hY _ ?_
    exact gf_eY (K := fun w => r = r ∧ i_Rel (k + 5) u' w) v' ⟨rfl, hI⟩
  · obtain ⟨r, u', v', hI, hX, hY⟩ := ge_add (k := k) (f_draftSlot := f_draftSlot) (f_slotTokens := f_slotTokens) (f_slotRoots := f_slotRoots) (f_itemArgument := f_itemArgument) (f_itemLeft := f_itemLeft) (f_itemRight := f_itemRight) (f_itemChoice := f_itemChoice) (f_nodeFresh := f_nodeFresh) (f_nodeBusy := f_nodeBusy) (f_nodeNumber := f_nodeNumber) (f_nodePartial := f_nodePartial) (f_modeRead := f_modeRead) (f_modeDemand := f_modeDemand) (f_modeEnter := f_modeEnter) (f_modeGive := f_modeGive) (f_placeNodes := f_placeNodes) (f_draftTarget := f_draftTarget) (f_draftMade := f_draftMade) (f_result := f_result) (f_price := f_price) (f_peak := f_peak) (f_outcome := f_outcome) (f_mode := f_mode) (f_nowA := f_nowA) (f_nowB := f_nowB) (f_items := f_items) (f_marks := f_marks) (f_high := f_high) (f_nodes := f_nodes) (f_frames := f_frames) (a_slotUsed := a_slotUsed) (a_slotArity := a_slotArity) (a_slotLocals := a_slotLocals) (a_slotSize := a_slotSize) (a_tokenKind := a_tokenKind) (a_tokenValue := a_tokenValue) (a_tokenSpan := a_tokenSpan) (a_roots := a_roots) (a_itemSort := a_itemSort) (a_itemA := a_itemA) (a_itemB := a_itemB) (a_markNode := a_markNode) (a_markPrice := a_markPrice) (a_markBase := a_markBase) (a_markHigh := a_markHigh) (a_nodeState := a_nodeState) (a_nodeCode := a_nodeCode) (a_nodeExtra := a_nodeExtra) (a_nodePrice := a_nodePrice) (a_nodeHeight := a_nodeHeight) (a_nodeHeld := a_nodeHeld) (a_frameArgs := a_frameArgs) (a_frameLocals := a_frameLocals) (g_items := g_items) (g_frames := g_frames) (g_paid := g_paid) (g_high := g_high) (g_ending := g_ending) (g_outcome := g_outcome) (g_giving := g_giving) (g_value := g_value) (g_expr := g_expr) (g_frame := g_frame) (b_kind := b_kind) (b_val := b_val) (b_itemSort := b_itemSort) (b_itemA := b_itemA) (b_itemB := b_itemB) (b_itemFrame := b_itemFrame) (b_argExpr := b_argExpr) (b_argFrame := b_argFrame) (df := df) (mt := mt) (D := D) (mp := mp) (L := L) hN hk hq (K := 4) (V := nI j) (al := 1) (t := 0) (Or.inr ⟨rfl, by decide, ⟨4, by omega, by omega, rfl⟩, (fun e => absurd e (by decide)), (fun e => absurd e (by decide)), (fun _ => ⟨nI_pos (by omega), nI_ge hj (by omega)⟩)⟩)
    refine gn_pl1 hj hdf ?_
    refine hX _ ?_
    refine gk_eta (K := fun w => wpY_global (fun r' v' => r' = r ∧ i_Rel (k + 5) w v') (nI df, nI mt, nI D, nI mp, nI L, f_draftTarget, f_result, f_price, f_peak, g_items, g_frames, g_paid, g_high, g_ending, g_outcome, g_giving, g_value, g_expr, g_frame, b_kind, b_val, a_slotUsed, a_slotSize, a_slotArity, a_slotLocals, b_itemSort, b_itemA, b_itemB, b_itemFrame, b_argExpr, b_argFrame) (nI j)) u' ?_
    show wpY_global _ (nI df, nI mt, nI D, nI mp, nI L, f_draftTarget, f_result, f_price, f_peak, g_items, g_frames, g_paid, g_high, g_ending, g_outcome, g_giving, g_value, g_expr, g_frame, b_kind, b_val, a_slotUsed, a_slotSize, a_slotArity, a_slotLocals, b_itemSort, b_itemA, b_itemB, b_itemFrame, b_argExpr, b_argFrame) (nI j)
    unfold wpY_global
    refine gr_z1 hj hdf ?_
    unfold wY_global_20
    refine hY _ ?_
    exact gf_eY (K := fun w => r = r ∧ i_Rel (k + 5) u' w) v' ⟨rfl, hI⟩
theorem i_vc_op {k : Nat} {u : SX} {v : SY} (I : i_Rel k u v) (hk : k + 5 ≤ 2564) (v1 : Int32) : wpX_op (fun r u' => wpY_op (fun r' v' => r' = r ∧ i_Rel (k + 5) u' v') v v1) u v1 := by
  refine gr_el (P := fun u v => wpX_op (fun r u' => wpY_op (fun r' v' => r' = r ∧ i_Rel (k + 5) u' v') v v1) u v1) ?_ I
  intro f_draftSlot f_slotTokens f_slotRoots f_itemArgument f_itemLeft f_itemRight f_itemChoice f_nodeFresh f_nodeBusy f_nodeNumber f_nodePartial f_modeRead f_modeDemand f_modeEnter f_modeGive f_placeNodes f_draftTarget f_draftMade f_result f_price f_peak f_outcome f_mode f_nowA f_nowB f_items f_marks f_high f_nodes f_frames a_slotUsed a_slotArity a_slotLocals a_slotSize a_tokenKind a_tokenValue a_tokenSpan a_roots a_itemSort a_itemA a_itemB a_markNode a_markPrice a_markBase a_markHigh a_nodeState a_nodeCode a_nodeExtra a_nodePrice a_nodeHeight a_nodeHeld a_frameArgs a_frameLocals g_items g_frames g_paid g_high g_ending g_outcome g_giving g_value g_expr g_frame b_kind b_val b_itemSort b_itemA b_itemB b_itemFrame b_argExpr b_argFrame df mt D mp L hN hk hq
  show wpX_op (fun r u' => wpY_op (fun r' v' => r' = r ∧ i_Rel (k + 5) u' v') (nI df, nI mt, nI D, nI mp, nI L, f_draftTarget, f_result, f_price, f_peak, g_items, g_frames, g_paid, g_high, g_ending, g_outcome, g_giving, g_value, g_expr, g_frame, b_kind, b_val, a_slotUsed, a_slotSize, a_slotArity, a_slotLocals, b_itemSort, b_itemA, b_itemB, b_itemFrame, b_argExpr, b_argFrame) v1) (f_draftSlot, f_slotTokens, f_slotRoots, f_itemArgument, f_itemLeft, f_itemRight, f_itemChoice, f_nodeFresh, f_nodeBusy, f_nodeNumber, f_nodePartial, f_modeRead, f_modeDemand, f_modeEnter, f_modeGive, f_placeNodes, nI df, nI mt, nI D, nI mp, nI L, f_draftTarget, f_draftMade, f_result, f_price, f_peak, f_outcome, f_mode, f_nowA, f_nowB, f_items, f_marks, f_high, f_nodes, f_frames, a_slotUsed, a_slotArity, a_slotLocals, a_slotSize, a_tokenKind, a_tokenValue, a_tokenSpan, a_roots, a_itemSort, a_itemA, a_itemB, a_markNode, a_markPrice, a_markBase, a_markHigh, a_nodeState, a_nodeCode, a_nodeExtra, a_nodePrice, a_nodeHeight, a_nodeHeld, a_frameArgs, a_frameLocals) v1
  unfold wpX_op
  by_cases g : v1 < 6
  · obtain ⟨r, u', v', hI, hX, hY⟩ := ge_add (k := k) (f_draftSlot := f_draftSlot) (f_slotTokens := f_slotTokens) (f_slotRoots := f_slotRoots) (f_itemArgument := f_itemArgument) (f_itemLeft := f_itemLeft) (f_itemRight := f_itemRight) (f_itemChoice := f_itemChoice) (f_nodeFresh := f_nodeFresh) (f_nodeBusy := f_nodeBusy) (f_nodeNumber := f_nodeNumber) (f_nodePartial := f_nodePartial) (f_modeRead := f_modeRead) (f_modeDemand := f_modeDemand) (f_modeEnter := f_modeEnter) (f_modeGive := f_modeGive) (f_placeNodes := f_placeNodes) (f_draftTarget := f_draftTarget) (f_draftMade := f_draftMade) (f_result := f_result) (f_price := f_price) (f_peak := f_peak) (f_outcome := f_outcome) (f_mode := f_mode) (f_nowA := f_nowA) (f_nowB := f_nowB) (f_items := f_items) (f_marks := f_marks) (f_high := f_high) (f_nodes := f_nodes) (f_frames := f_frames) (a_slotUsed := a_slotUsed) (a_slotArity := a_slotArity) (a_slotLocals := a_slotLocals) (a_slotSize := a_slotSize) (a_tokenKind := a_tokenKind) (a_tokenValue := a_tokenValue) (a_tokenSpan := a_tokenSpan) (a_roots := a_roots) (a_itemSort := a_itemSort) (a_itemA := a_itemA) (a_itemB := a_itemB) (a_markNode := a_markNode) (a_markPrice := a_markPrice) (a_markBase := a_markBase) (a_markHigh := a_markHigh) (a_nodeState := a_nodeState) (a_nodeCode := a_nodeCode) (a_nodeExtra := a_nodeExtra) (a_nodePrice := a_nodePrice) (a_nodeHeight := a_nodeHeight) (a_nodeHeld := a_nodeHeld) (a_frameArgs := a_frameArgs) (a_frameLocals := a_frameLocals) (g_items := g_items) (g_frames := g_frames) (g_paid := g_paid) (g_high := g_high) (g_ending := g_ending) (g_outcome := g_outcome) (g_giving := g_giving) (g_value := g_value) (g_expr := g_expr) (g_frame := g_frame) (b_kind := b_kind) (b_val := b_val) (b_itemSort := b_itemSort) (b_itemA := b_itemA) (b_itemB := b_itemB) (b_itemFrame := b_itemFrame) (b_argExpr := b_argExpr) (b_argFrame := b_argFrame) (df := df) (mt := mt) (D := D) (mp := mp) (L := L) hN hk hq (K := v1) (V := 0) (al := 0) (t := 2) (Or.inl rfl)
    refine br_t g ?_
    unfold wX_op_16 wX_op_17
    refine hX _ ?_
    refine gk_eta (K := fun w => wpY_op (fun r' v' => r' = r ∧ i_Rel (k + 5) w v') (nI df, nI mt, nI D, nI mp, nI L, f_draftTarget, f_result, f_price, f_peak, g_items, g_frames, g_paid, g_high, g_ending, g_outcome, g_giving, g_value, g_expr, g_frame, b_kind, b_val, a_slotUsed, a_slotSize, a_slotArity, a_slotLocals, b_itemSort, b_itemA, b_itemB, b_itemFrame, b_argExpr, b_argFrame) v1) u' ?_
    show wpY_op _ (nI df, nI mt, nI D, nI mp, nI L, f_draftTarget, f_result, f_price, f_peak, g_items, g_frames, g_paid, g_high, g_ending, g_outcome, g_giving, g_value, g_expr, g_frame, b_kind, b_val, a_slotUsed, a_slotSize, a_slotArity, a_slotLocals, b_itemSort, b_itemA, b_itemB, b_itemFrame, b_argExpr, b_argFrame) v1
    unfold wpY_op
    refine br_t g ?_
    unfold wY_op_19 wY_op_20
    refine hY _ ?_
    exact gf_eY (K := fun w => r = r ∧ i_Rel (k + 5) u' w) v' ⟨rfl, hI⟩
  by_cases g2 : 10 < v1
  · obtain ⟨r, u', v', hI, hX, hY⟩ := ge_add (k := k) (f_draftSlot := f_draftSlot) (f_slotTokens := f_slotTokens) (f_slotRoots := f_slotRoots) (f_itemArgument := f_itemArgument) (f_itemLeft := f_itemLeft) (f_itemRight := f_itemRight) (f_itemChoice := f_itemChoice) (f_nodeFresh := f_nodeFresh) (f_nodeBusy := f_nodeBusy) (f_nodeNumber := f_nodeNumber) (f_nodePartial := f_nodePartial) (f_modeRead := f_modeRead) (f_modeDemand := f_modeDemand) (f_modeEnter := f_modeEnter) (f_modeGive := f_modeGive) (f_placeNodes := f_placeNodes) (f_draftTarget := f_draftTarget) (f_draftMade := f_draftMade) (f_result := f_result) (f_price := f_price) (f_peak := f_peak) (f_outcome := f_outcome) (f_mode := f_mode) (f_nowA := f_nowA) (f_nowB := f_nowB) (f_items := f_items) (f_marks := f_marks) (f_high := f_high) (f_nodes := f_nodes) (f_frames := f_frames) (a_slotUsed := a_slotUsed) (a_slotArity := a_slotArity) (a_slotLocals := a_slotLocals) (a_slotSize := a_slotSize) (a_tokenKind := a_tokenKind) (a_tokenValue := a_tokenValue) (a_tokenSpan := a_tokenSpan) (a_roots := a_roots) (a_itemSort := a_itemSort) (a_itemA := a_itemA) (a_itemB := a_itemB) (a_markNode := a_markNode) (a_markPrice := a_markPrice) (a_markBase := a_markBase) (a_markHigh := a_markHigh) (a_nodeState := a_nodeState) (a_nodeCode := a_nodeCode) (a_nodeExtra := a_nodeExtra) (a_nodePrice := a_nodePrice) (a_nodeHeight := a_nodeHeight) (a_nodeHeld := a_nodeHeld) (a_frameArgs := a_frameArgs) (a_frameLocals := a_frameLocals) (g_items := g_items) (g_frames := g_frames) (g_paid := g_paid) (g_high := g_high) (g_ending := g_ending) (g_outcome := g_outcome) (g_giving := g_giving) (g_value := g_value) (g_expr := g_expr) (g_frame := g_frame) (b_kind := b_kind) (b_val := b_val) (b_itemSort := b_itemSort) (b_itemA := b_itemA) (b_itemB := b_itemB) (b_itemFrame := b_itemFrame) (b_argExpr := b_argExpr) (b_argFrame := b_argFrame) (df := df) (mt := mt) (D := D) (mp := mp) (L := L) hN hk hq (K := v1) (V := 0) (al := 0) (t := 2) (Or.inl rfl)
    refine br_f g (br_t g2 ?_)
    unfold wX_op_16 wX_op_17
    refine hX _ ?_
    refine gk_eta (K := fun w => wpY_op (fun r' v' => r' = r ∧ i_Rel (k + 5) w v') (nI df, nI mt, nI D, nI mp, nI L, f_draftTarget, f_result, f_price, f_peak, g_items, g_frames, g_paid, g_high, g_ending, g_outcome, g_giving, g_value, g_expr, g_frame, b_kind, b_val, a_slotUsed, a_slotSize, a_slotArity, a_slotLocals, b_itemSort, b_itemA, b_itemB, b_itemFrame, b_argExpr, b_argFrame) v1) u' ?_
    show wpY_op _ (nI df, nI mt, nI D, nI mp, nI L, f_draftTarget, f_result, f_price, f_peak, g_items, g_frames, g_paid, g_high, g_ending, g_outcome, g_giving, g_value, g_expr, g_frame, b_kind, b_val, a_slotUsed, a_slotSize, a_slotArity, a_slotLocals, b_itemSort, b_itemA, b_itemB, b_itemFrame, b_argExpr, b_argFrame) v1
    unfold wpY_op
    refine br_f g (br_t g2 ?_)
    unfold wY_op_19 wY_op_20
    refine hY _ ?_
    exact gf_eY (K := fun w => r = r ∧ i_Rel (k + 5) u' w) v' ⟨rfl, hI⟩
  · have g3 : ¬ v1 < 0 := fun z => g (Int32.lt_of_lt_of_le z (by decide))
    obtain ⟨j, j1, rfl⟩ := nI_of2 (M := 10) (n := 10) (by decide) g3 (Int32.not_lt.mp g2)
    have j2 : 6 ≤ j := by
      by_cases w : 6 ≤ j
      · exact w
      · exact absurd (nI_lt (b := 6) (by omega) (by omega)) g
    obtain ⟨o1, o2, o3, o4, o5, o6⟩ := gw_op j2 j1
    have ht : gt_tk (nI j) = 2 := by rw [gt_tk_n j (by omega), if_neg (by omega), if_neg (by omega)]
    obtain ⟨r, u', v', hI, hX, hY⟩ := ge_add (k := k) (f_draftSlot := f_draftSlot) (f_slotTokens := f_slotTokens) (f_slotRoots := f_slotRoots) (f_itemArgument := f_itemArgument) (f_itemLeft := f_itemLeft) (f_itemRight := f_itemRight) (f_itemChoice := f_itemChoice) (f_nodeFresh := f_nodeFresh) (f_nodeBusy := f_nodeBusy) (f_nodeNumber := f_nodeNumber) (f_nodePartial := f_nodePartial) (f_modeRead := f_modeRead) (f_modeDemand := f_modeDemand) (f_modeEnter := f_modeEnter) (f_modeGive := f_modeGive) (f_placeNodes := f_placeNodes) (f_draftTarget := f_draftTarget) (f_draftMade := f_draftMade) (f_result := f_result) (f_price := f_price) (f_peak := f_peak) (f_outcome := f_outcome) (f_mode := f_mode) (f_nowA := f_nowA) (f_nowB := f_nowB) (f_items := f_items) (f_marks := f_marks) (f_high := f_high) (f_nodes := f_nodes) (f_frames := f_frames) (a_slotUsed := a_slotUsed) (a_slotArity := a_slotArity) (a_slotLocals := a_slotLocals) (a_slotSize := a_slotSize) (a_tokenKind := a_tokenKind) (a_tokenValue := a_tokenValue) (a_tokenSpan := a_tokenSpan) (a_roots := a_roots) (a_itemSort := a_itemSort) (a_itemA := a_itemA) (a_itemB := a_itemB) (a_markNode := a_markNode) (a_markPrice := a_markPrice) (a_markBase := a_markBase) (a_markHigh := a_markHigh) (a_nodeState := a_nodeState) (a_nodeCode := a_nodeCode) (a_nodeExtra := a_nodeExtra) (a_nodePrice := a_nodePrice) (a_nodeHeight := a_nodeHeight) (a_nodeHeld := a_nodeHeld) (a_frameArgs := a_frameArgs) (a_frameLocals := a_frameLocals) (g_items := g_items) (g_frames := g_frames) (g_paid := g_paid) (g_high := g_high) (g_ending := g_ending) (g_outcome := g_outcome) (g_giving := g_giving) (g_value := g_value) (g_expr := g_expr) (g_frame := g_frame) (b_kind := b_kind) (b_val := b_val) (b_itemSort := b_itemSort) (b_itemA := b_itemA) (b_itemB := b_itemB) (b_itemFrame := b_itemFrame) (b_argExpr := b_argExpr) (b_argFrame := b_argFrame) (df := df) (mt := mt) (D := D) (mp := mp) (L := L) hN hk hq (K := nI j) (V := 0) (al := 1) (t := 2) (Or.inr ⟨rfl, ht, ⟨j, by omega, by omega, rfl⟩, (fun e => absurd e o2), (fun e => absurd e o3), (fun e => absurd e o4)⟩)
    refine br_f g (br_f g2 ?_)
    unfold wX_op_17
    refine hX _ ?_
    refine gk_eta (K := fun w => wpY_op (fun r' v' => r' = r ∧ i_Rel (k + 5) w v') (nI df, nI mt, nI D, nI mp, nI L, f_draftTarget, f_result, f_price, f_peak, g_items, g_frames, g_paid, g_high, g_ending, g_outcome, g_giving, g_value, g_expr, g_frame, b_kind, b_val, a_slotUsed, a_slotSize, a_slotArity, a_slotLocals, b_itemSort, b_itemA, b_itemB, b_itemFrame, b_argExpr, b_argFrame) (nI j)) u' ?_
    show wpY_op _ (nI df, nI mt, nI D, nI mp, nI L, f_draftTarget, f_result, f_price, f_peak, g_items, g_frames, g_paid, g_high, g_ending, g_outcome, g_giving, g_value, g_expr, g_frame, b_kind, b_val, a_slotUsed, a_slotSize, a_slotArity, a_slotLocals, b_itemSort, b_itemA, b_itemB, b_itemFrame, b_argExpr, b_argFrame) (nI j)
    unfold wpY_op
    refine br_f g (br_f g2 ?_)
    unfold wY_op_20
    refine hY _ ?_
    exact gf_eY (K := fun w => r = r ∧ i_Rel (k + 5) u' w) v' ⟨rfl, hI⟩
end GF
end
section
section GB
section V
variable {df mt n a l t : Nat} {dt dm : Int32} {us ar lc sz kd vl sp rt rt' : Nat → Int32}
theorem gb_Q (hdf : df ≤ 8) (h : gr_Q df mt dt dm us ar lc sz kd vl sp rt) (ht : t < df) (hn : n ≤ 24) (ha : a ≤ 4) (hl : l ≤ 3) (e1 : ar 8 = nI a) (e2 : lc 8 = nI l) (hr : gt_Row kd vl sp 192 n a l df) (hc : gt_ct kd 192 n = l + 1)
    (r1 : ∀ i, i < l → rt' (4 * t + i) = nI (gt_rc (gl_cp sp (24 * t) n) (24 * t + n - 1) (l - i))) (r2 : rt' (4 * t + 3) = nI (24 * t + n - 1)) (r3 : ∀ q, (q < 4 * t ∨ 4 * t + 4 ≤ q) → rt' q = rt q) :
    gr_Q df mt dt dm (upd (upd us t 1) 8 0) (upd ar t (ar 8)) (upd lc t (lc 8)) (upd sz t (nI n)) (gl_cp kd (24 * t) n) (gl_cp vl (24 * t) n) (gl_cp sp (24 * t) n) rt' := by
  refine ⟨fun d hd hu => ?_, fun hu => absurd pk_us hu⟩
  by_cases g : d = t
  · subst g
    refine ⟨n, a, l, hn, ha, hl, pk_us, pk_us.trans e1, pk_us.trans e2, gt_Row_cg (fun j hj => ⟨gl_cp_in hj, gl_cp_in hj, gl_cp_in hj⟩) hr, ?_, r2, r1⟩
    rw [← hc]
    exact gt_ct_cg n (fun i hi => gl_cp_in hi)
  · rw [pk_un (by omega), pk_un g] at hu
    refine gr_SL_cg ⟨pk_un g, pk_un g, pk_un g⟩ (fun q q1 q2 => ⟨gl_cp_out (by omega), gl_cp_out (by omega), gl_cp_out (by omega)⟩) (fun q q1 q2 => r3 q (by omega)) (h.1 d hd hu)
end V
theorem i_vc_end {k : Nat} {u : SX} {v : SY} (I : i_Rel k u v) (hk : k + 5 ≤ 2564) : wpX_end (fun r u' => wpY_end (fun r' v' => r' = r ∧ i_Rel (k + 5) u' v') v) u := by
  refine gr_el (P := fun u v => wpX_end (fun r u' => wpY_end (fun r' v' => r' = r ∧ i_Rel (k + 5) u' v') v) u) ?_ I
  intro f_draftSlot f_slotTokens f_slotRoots f_itemArgument f_itemLeft f_itemRight f_itemChoice f_nodeFresh f_nodeBusy f_nodeNumber f_nodePartial f_modeRead f_modeDemand f_modeEnter f_modeGive f_placeNodes f_draftTarget f_draftMade f_result f_price f_peak f_outcome f_mode f_nowA f_nowB f_items f_marks f_high f_nodes f_frames a_slotUsed a_slotArity a_slotLocals a_slotSize a_tokenKind a_tokenValue a_tokenSpan a_roots a_itemSort a_itemA a_itemB a_markNode a_markPrice a_markBase a_markHigh a_nodeState a_nodeCode a_nodeExtra a_nodePrice a_nodeHeight a_nodeHeld a_frameArgs a_frameLocals g_items g_frames g_paid g_high g_ending g_outcome g_giving g_value g_expr g_frame b_kind b_val b_itemSort b_itemA b_itemB b_itemFrame b_argExpr b_argFrame df mt D mp L hN hk hq
  show wpX_end (fun r u' => wpY_end (fun r' v' => r' = r ∧ i_Rel (k + 5) u' v') (nI df, nI mt, nI D, nI mp, nI L, f_draftTarget, f_result, f_price, f_peak, g_items, g_frames, g_paid, g_high, g_ending, g_outcome, g_giving, g_value, g_expr, g_frame, b_kind, b_val, a_slotUsed, a_slotSize, a_slotArity, a_slotLocals, b_itemSort, b_itemA, b_itemB, b_itemFrame, b_argExpr, b_argFrame)) (f_draftSlot, f_slotTokens, f_slotRoots, f_itemArgument, f_itemLeft, f_itemRight, f_itemChoice, f_nodeFresh, f_nodeBusy, f_nodeNumber, f_nodePartial, f_modeRead, f_modeDemand, f_modeEnter, f_modeGive, f_placeNodes, nI df, nI mt, nI D, nI mp, nI L, f_draftTarget, f_draftMade, f_result, f_price, f_peak, f_outcome, f_mode, f_nowA, f_nowB, f_items, f_marks, f_high, f_nodes, f_frames, a_slotUsed, a_slotArity, a_slotLocals, a_slotSize, a_tokenKind, a_tokenValue, a_tokenSpan, a_roots, a_itemSort, a_itemA, a_itemB, a_markNode, a_markPrice, a_markBase, a_markHigh, a_nodeState, a_nodeCode, a_nodeExtra, a_nodePrice, a_nodeHeight, a_nodeHeld, a_frameArgs, a_frameLocals)
  unfold wpX_end
  by_cases g0 : a_slotUsed 8 = 0
  · refine br_t g0 ?_
    exact br_t g0 ⟨rfl, gr_in hN hk hq⟩
  obtain ⟨n, a, l, t, d1, d2, d3, d4, d5, d6, hr, d8, d9, d10⟩ := hq.2 g0
  obtain ⟨n1, n2, n3, n4, _⟩ := id hN
  subst d8 d9
  have l1 := gl_ct_le a_tokenKind 192 n
  have cgk : ∀ j, j < n → b_kind (192 + j) = a_tokenKind (192 + j) ∧ b_val (192 + j) = a_tokenValue (192 + j) ∧ a_tokenSpan (192 + j) = a_tokenSpan (192 + j) := fun j hj => ⟨(hk _ (by omega)).1, (hk _ (by omega)).2, rfl⟩
  have hrY : gt_Row b_kind b_val a_tokenSpan 192 n a l df := gt_Row_cg cgk hr
  have ecY : gt_ct b_kind 192 n = gt_ct a_tokenKind 192 n := gt_ct_cg n (fun i hi => (cgk i hi).1)
  have e8 : a_slotLocals 8 + 1 = nI (l + 1) := by rw [d6, nI_1]
  by_cases g1 : gt_ct a_tokenKind 192 n = l + 1
  · have c1 : nI (gt_ct a_tokenKind 192 n) = a_slotLocals 8 + 1 := by rw [e8, g1]
    have hn1 := gt_pos' (kd := a_tokenKind) (B := 192) (i := n) (by omega)
    have hr2 : gt_Row (gl_cp a_tokenKind (24 * t) n) (gl_cp a_tokenValue (24 * t) n) (gl_cp a_tokenSpan (24 * t) n) (24 * t) n a l df := gt_Row_cg (fun j hj => ⟨gl_cp_in hj, gl_cp_in hj, gl_cp_in hj⟩) hr
    have hc2 : gt_ct (gl_cp a_tokenKind (24 * t) n) (24 * t) n = l + 1 := (gt_ct_cg n (fun i hi => gl_cp_in hi)).trans g1
    have hk2 : ∀ q, q < 216 → gl_cp b_kind (24 * t) n q = gl_cp a_tokenKind (24 * t) n q ∧ gl_cp b_val (24 * t) n q = gl_cp a_tokenValue (24 * t) n q := by
      intro q hq
      by_cases w : 24 * t ≤ q ∧ q < 24 * t + n
      · obtain ⟨i, rfl⟩ : ∃ i, q = 24 * t + i := ⟨q - 24 * t, by omega⟩
        have hi : i < n := by omega
        rw [gl_cp_in hi, gl_cp_in hi, gl_cp_in hi, gl_cp_in hi]
        exact hk _ (by omega)
      · rw [gl_cp_out w, gl_cp_out w, gl_cp_out w, gl_cp_out w]
        exact hk q hq
    refine br_f g0 (br_t c1 ?_)
    refine gl_copy (by omega) (by omega) d4 ?_
    refine gl_roots (n := n) (l := l) (by omega) d3 (by omega) hn1 pk_us (pk_us.trans d6) (fun j hj => ?_) ?_
    · obtain ⟨i1, i2, i3⟩ := gt_roots hr2 (by omega) hc2 j (by omega)
      obtain ⟨s, s1, s2, s3, s4⟩ := gt_rcs hr2 (by omega) hc2 hj
      exact ⟨by omega, s, s1, s3⟩
    · intro rr q1 q2 q3
      have ct : (nI t).toNatClampNeg = t := nI_clamp (by omega)
      refine nm_r (e' := upd (upd a_slotUsed t 1) 8 0) (by rw [ga_vb0]) ⟨ga_in (by omega), ?_⟩
      rw [ct, pk_us]
      show wpY_end _ (nI df, nI mt, nI D, nI mp, nI L, nI t, f_result, f_price, f_peak, g_items, g_frames, g_paid, g_high, g_ending, g_outcome, g_giving, g_value, g_expr, g_frame, b_kind, b_val, a_slotUsed, a_slotSize, a_slotArity, a_slotLocals, b_itemSort, b_itemA, b_itemB, b_itemFrame, b_argExpr, b_argFrame)
      unfold wpY_end
      refine br_f g0 ?_
      refine gl_made d4 (by omega) hrY ?_
      rw [ecY]
      refine br_t c1 ⟨n + 1, ?_⟩
      have hfin := gr_in (k := k + 5) (f_draftSlot := f_draftSlot) (f_slotTokens := f_slotTokens) (f_slotRoots := f_slotRoots) (f_itemArgument := f_itemArgument) (f_itemLeft := f_itemLeft) (f_itemRight := f_itemRight) (f_itemChoice := f_itemChoice) (f_nodeFresh := f_nodeFresh) (f_nodeBusy := f_nodeBusy) (f_nodeNumber := f_nodeNumber) (f_nodePartial := f_nodePartial) (f_modeRead := f_modeRead) (f_modeDemand := f_modeDemand) (f_modeEnter := f_modeEnter) (f_modeGive := f_modeGive) (f_placeNodes := f_placeNodes) (f_result := f_result) (f_price := f_price) (f_peak := f_peak) (f_outcome := f_outcome) (f_mode := f_mode) (f_nowA := f_nowA) (f_nowB := f_nowB) (f_items := f_items) (f_marks := f_marks) (f_high := f_high) (f_nodes := f_nodes) (f_frames := f_frames) (a_itemSort := a_itemSort) (a_itemA := a_itemA) (a_itemB := a_itemB) (a_markNode := a_markNode) (a_markPrice := a_markPrice) (a_markBase := a_markBase) (a_markHigh := a_markHigh) (a_nodeState := a_nodeState) (a_nodeCode := a_nodeCode) (a_nodeExtra := a_nodeExtra) (a_nodePrice := a_nodePrice) (a_nodeHeight := a_nodeHeight) (a_nodeHeld := a_nodeHeld) (a_frameArgs := a_frameArgs) (a_frameLocals := a_frameLocals) (g_items := g_items) (g_frames := g_frames) (g_paid := g_paid) (g_high := g_high) (g_ending := g_ending) (g_outcome := g_outcome) (g_giving := g_giving) (g_value := g_value) (g_expr := g_expr) (g_frame := g_frame) (b_itemSort := b_itemSort) (b_itemA := b_itemA) (b_itemB := b_itemB) (b_itemFrame := b_itemFrame) (b_argExpr := b_argExpr) (b_argFrame := b_argFrame) hN hk2 (gb_Q n2 hq d10 (by omega) d2 d3 d5 d6 hr g1 q1 q2 q3)
      have := gl_end_l (post := fun r' v' => r' = nI n ∧ i_Rel (k + 5) (f_draftSlot, f_slotTokens, f_slotRoots, f_itemArgument, f_itemLeft, f_itemRight, f_itemChoice, f_nodeFresh, f_nodeBusy, f_nodeNumber, f_nodePartial, f_modeRead, f_modeDemand, f_modeEnter, f_modeGive, f_placeNodes, nI df, nI mt, nI D, nI mp, nI L, nI t, nI (gt_ct a_tokenKind 192 n), f_result, f_price, f_peak, f_outcome, f_mode, f_nowA, f_nowB, f_items, f_marks, f_high, f_nodes, f_frames, upd (upd a_slotUsed t 1) 8 0, upd a_slotArity t (a_slotArity 8), upd a_slotLocals t (a_slotLocals 8), upd a_slotSize t (nI n), gl_cp a_tokenKind (24 * t) n, gl_cp a_tokenValue (24 * t) n, gl_cp a_tokenSpan (24 * t) n, rr, a_itemSort, a_itemA, a_itemB, a_markNode, a_markPrice, a_markBase, a_markHigh, a_nodeState, a_nodeCode, a_nodeExtra, a_nodePrice, a_nodeHeight, a_nodeHeld, a_frameArgs, a_frameLocals) v') (a_kind := b_kind) (a_val := b_val) (show t < 8 by omega) (show n ≤ 24 by omega) d4 ⟨rfl, hfin⟩ n 0 (by omega)
      rw [gl_cp0, gl_cp0] at this
      exact this
  · have c1 : ¬ nI (gt_ct a_tokenKind 192 n) = a_slotLocals 8 + 1 := by rw [e8]; exact ga_ne g1 (by omega) (by omega)
    refine br_f g0 (br_f c1 ?_)
    show wpY_end _ (nI df, nI mt, nI D, nI mp, nI L, nI t, f_result, f_price, f_peak, g_items, g_frames, g_paid, g_high, g_ending, g_outcome, g_giving, g_value, g_expr, g_frame, b_kind, b_val, a_slotUsed, a_slotSize, a_slotArity, a_slotLocals, b_itemSort, b_itemA, b_itemB, b_itemFrame, b_argExpr, b_argFrame)
    unfold wpY_end
    refine br_f g0 ?_
    refine gl_made d4 (by omega) hrY ?_
    rw [ecY]
    exact br_f c1 ⟨rfl, gr_in hN hk hq⟩
end GB
end
section
section GD
section Y
variable {g_defs g_maxTokens g_maxPrice g_draftTarget g_lastResult g_lastPrice g_lastPeak : Int32} {b_kind b_val b_there b_sizes b_arities b_localCounts : Nat → Int32} {D L : Nat} {post : Int32 → SY → Prop}
theorem gd_y {y0 y' : gc_Y} (h : gy_r g_defs g_maxTokens g_maxPrice g_draftTarget g_lastResult g_lastPrice g_lastPeak b_kind b_val b_there b_sizes b_arities b_localCounts D L y0 y') (hb : gy_ph y' + gc_it y0 ≤ 20000) (hf : match y' with | (it, fr, pd, hi, en, ou, gv, vv, ex, fm, iS, iA, iB, iF, aE, aF) => ¬ en = 0 ∧ wY_eval_197 post g_defs g_maxTokens (nI D) g_maxPrice (nI L) g_draftTarget g_lastResult g_lastPrice g_lastPeak (nI it) (nI fr) (nI pd) (nI hi) en ou gv vv ex fm b_kind b_val b_there b_sizes b_arities b_localCounts iS iA iB iF aE aF) : ∃ n, gy_W g_defs g_maxTokens g_maxPrice g_draftTarget g_lastResult g_lastPrice g_lastPeak b_kind b_val b_there b_sizes b_arities b_localCounts D L post n 0 y0 := by
  obtain ⟨k, k1, k2⟩ := h
  refine ⟨1 + k, k2 post 1 0 (by omega) ?_⟩
  obtain ⟨it, fr, pd, hi, en, ou, gv, vv, ex, fm, iS, iA, iB, iF, aE, aF⟩ := y'
  obtain ⟨h1, h2⟩ := hf
  exact br_c (fun _ => h2) (fun _ => br_f h1 h2)
end Y
section V
variable {f_draftSlot f_slotTokens f_slotRoots f_itemArgument f_itemLeft f_itemRight f_itemChoice f_nodeFresh f_nodeBusy f_nodeNumber f_nodePartial f_modeRead f_modeDemand f_modeEnter f_modeGive f_placeNodes f_defs f_maxTokens f_maxPrice f_draftTarget f_draftMade : Int32} {a_slotUsed a_slotArity a_slotLocals a_slotSize a_tokenKind a_tokenValue a_tokenSpan a_roots : Nat → Int32} {G : gc_G} {us : Nat → Prop} {lc : Nat → Nat} {rt : Nat → Nat → Nat} {y0 : gc_Y} {D L pr pk it mz hi nn nf : Nat} {rs ou md nA nB : Int32} {iS iA iB mN mP mB mH nS nC nE nP nG nW fA fL : Nat → Int32} {d cnt : Nat}
theorem gd_res {ps : SX → Prop} (h : ps (f_draftSlot, f_slotTokens, f_slotRoots, f_itemArgument, f_itemLeft, f_itemRight, f_itemChoice, f_nodeFresh, f_nodeBusy, f_nodeNumber, f_nodePartial, f_modeRead, f_modeDemand, f_modeEnter, f_modeGive, f_placeNodes, f_defs, f_maxTokens, nI D, f_maxPrice, nI L, f_draftTarget, f_draftMade, 0, nI 0, nI 0, 0, md, nA, nB, nI 0, nI 0, nI 0, nI 8, nI 0, a_slotUsed, a_slotArity, a_slotLocals, a_slotSize, a_tokenKind, a_tokenValue, a_tokenSpan, a_roots, iS, iA, iB, mN, mP, mB, mH, gx_rg nS 0 8 (fun _ => 0), nC, nE, nP, nG, nW, fA, fL)) : wpX_reset ps (f_draftSlot, f_slotTokens, f_slotRoots, f_itemArgument, f_itemLeft, f_itemRight, f_itemChoice, f_nodeFresh, f_nodeBusy, f_nodeNumber, f_nodePartial, f_modeRead, f_modeDemand, f_modeEnter, f_modeGive, f_placeNodes, f_defs, f_maxTokens, nI D, f_maxPrice, nI L, f_draftTarget, f_draftMade, rs, nI pr, nI pk, ou, md, nA, nB, nI it, nI mz, nI hi, nI nn, nI nf, a_slotUsed, a_slotArity, a_slotLocals, a_slotSize, a_tokenKind, a_tokenValue, a_tokenSpan, a_roots, iS, iA, iB, mN, mP, mB, mH, nS, nC, nE, nP, nG, nW, fA, fL) := by
  have key : ∀ t i, i + t = 8 → wX_reset_48 ps f_draftSlot f_slotTokens f_slotRoots f_itemArgument f_itemLeft f_itemRight f_itemChoice f_nodeFresh f_nodeBusy f_nodeNumber f_nodePartial f_modeRead f_modeDemand f_modeEnter f_modeGive f_placeNodes f_defs f_maxTokens (nI D) f_maxPrice (nI L) f_draftTarget f_draftMade 0 (nI 0) (nI 0) 0 md nA nB (nI 0) (nI 0) (nI 0) (nI 8) (nI 0) (t + 1) (nI i) a_slotUsed a_slotArity a_slotLocals a_slotSize a_tokenKind a_tokenValue a_tokenSpan a_roots iS iA iB mN mP mB mH (gx_rg nS 0 i (fun _ => 0)) nC nE nP nG nW fA fL := by
    intro t
    induction t with
    | zero =>
      intro i e
      obtain rfl : i = 8 := e
      exact br_t (Int32.le_refl _) h
    | succ t ih =>
      intro i e
      have ci : (nI i).toNatClampNeg = 0 + i := by rw [nI_clamp (by omega)]; omega
      refine br_f (nI_ge (b := 8) (by omega) (by omega)) ⟨ga_in (by omega), nm_r (e' := gx_rg nS 0 (i + 1) (fun _ => 0)) (by rw [ci]; exact gx_rgs nS 0 i (fun _ => 0)) (nm_r (nI_1 i) (ih (i + 1) (by omega)))⟩
  have k0 := key 8 0 (by omega)
  rw [gx_rg0] at k0
  exact ⟨9, k0⟩
theorem gd_pi {ps : SX → Prop} {v : Int32} (hn : nn < 4500) (hi1 : it < D) (hD : D ≤ 200) (hh : hi ≤ 200) (hk : pk ≤ 200)
    (h : ps (f_draftSlot, f_slotTokens, f_slotRoots, f_itemArgument, f_itemLeft, f_itemRight, f_itemChoice, f_nodeFresh, f_nodeBusy, f_nodeNumber, f_nodePartial, f_modeRead, f_modeDemand, f_modeEnter, f_modeGive, f_placeNodes, f_defs, f_maxTokens, nI D, f_maxPrice, nI L, f_draftTarget, f_draftMade, rs, nI pr, nI (gp_hx pk (it + 1)), ou, md, nA, nB, nI (it + 1), nI mz, nI (gp_hx hi (it + 1)), nI (nn + 1), nI nf, a_slotUsed, a_slotArity, a_slotLocals, a_slotSize, a_tokenKind, a_tokenValue, a_tokenSpan, a_roots, upd iS it 0, upd iA it (nI nn), upd iB it 0, mN, mP, mB, mH, upd nS nn 2, upd nC nn v, upd nE nn 0, upd nP nn 1, upd nG nn 0, nW, fA, fL)) : wpX_pushInteger ps (f_draftSlot, f_slotTokens, f_slotRoots, f_itemArgument, f_itemLeft, f_itemRight, f_itemChoice, f_nodeFresh, f_nodeBusy, f_nodeNumber, f_nodePartial, f_modeRead, f_modeDemand, f_modeEnter, f_modeGive, f_placeNodes, f_defs, f_maxTokens, nI D, f_maxPrice, nI L, f_draftTarget, f_draftMade, rs, nI pr, nI pk, ou, md, nA, nB, nI it, nI mz, nI hi, nI nn, nI nf, a_slotUsed, a_slotArity, a_slotLocals, a_slotSize, a_tokenKind, a_tokenValue, a_tokenSpan, a_roots, iS, iA, iB, mN, mP, mB, mH, nS, nC, nE, nP, nG, nW, fA, fL) v := by
  unfold wpX_pushInteger
  refine gx_new hn ?_
  refine gx_push hi1 hD hh hk ?_
  exact h
theorem gd_44 {post : Int32 → SX → Prop} (R : gp_R G us lc rt) (P : gk_P G us lc rt a_slotUsed a_slotArity a_slotLocals a_tokenKind a_tokenValue a_tokenSpan a_roots) (h1 : 1 ≤ gg_L G) (hX : gk_X G us lc rt y0 (1, pk, 2, nI d, 0, it, mz, hi, nn, nf, iS, iA, iB, mN, mP, mB, mH, nS, nC, nE, nP, nG, nW, fA, fL) 0)
    (hL : (∃ y', gg_r G y0 y' ∧ gc_LM y') → ∀ s : gk_S, match s with | (pr, pk, md, nA, nB, it, mz, hi, nn, nf, iS, iA, iB, mN, mP, mB, mH, nS, nC, nE, nP, nG, nW, fA, fL) => post 3 (f_draftSlot, f_slotTokens, f_slotRoots, f_itemArgument, f_itemLeft, f_itemRight, f_itemChoice, f_nodeFresh, f_nodeBusy, f_nodeNumber, f_nodePartial, f_modeRead, f_modeDemand, f_modeEnter, f_modeGive, f_placeNodes, f_defs, f_maxTokens, nI (gg_D G), f_maxPrice, nI (gg_L G), f_draftTarget, f_draftMade, 0, 0, 0, 3, md, nA, nB, nI it, nI mz, nI hi, nI nn, nI nf, a_slotUsed, a_slotArity, a_slotLocals, a_slotSize, a_tokenKind, a_tokenValue, a_tokenSpan, a_roots, iS, iA, iB, mN, mP, mB, mH, nS, nC, nE, nP, nG, nW, fA, fL))
    (hF : ∀ (E O : Int32) (s : gk_S), ¬ E = 0 → ¬ E = 3 → match s with | (pr, pk, md, nA, nB, it, mz, hi, nn, nf, iS, iA, iB, mN, mP, mB, mH, nS, nC, nE, nP, nG, nW, fA, fL) => (∃ y', gg_r G y0 y' ∧ gv_FN y' E O pr pk) → post E (f_draftSlot, f_slotTokens, f_slotRoots, f_itemArgument, f_itemLeft, f_itemRight, f_itemChoice, f_nodeFresh, f_nodeBusy, f_nodeNumber, f_nodePartial, f_modeRead, f_modeDemand, f_modeEnter, f_modeGive, f_placeNodes, f_defs, f_maxTokens, nI (gg_D G), f_maxPrice, nI (gg_L G), f_draftTarget, f_draftMade, O, nI pr, nI pk, E, md, nA, nB, nI it, nI mz, nI hi, nI nn, nI nf, a_slotUsed, a_slotArity, a_slotLocals, a_slotSize, a_tokenKind, a_tokenValue, a_tokenSpan, a_roots, iS, iA, iB, mN, mP, mB, mH, nS, nC, nE, nP, nG, nW, fA, fL)) :
    wX_eval_44 post (nI d) f_draftSlot f_slotTokens f_slotRoots f_itemArgument f_itemLeft f_itemRight f_itemChoice f_nodeFresh f_nodeBusy f_nodeNumber f_nodePartial f_modeRead f_modeDemand f_modeEnter f_modeGive f_placeNodes f_defs f_maxTokens (nI (gg_D G)) f_maxPrice (nI (gg_L G)) f_draftTarget f_draftMade 0 (nI 0) (nI pk) 0 md nA nB (nI it) (nI mz) (nI hi) (nI nn) (nI nf) a_slotUsed a_slotArity a_slotLocals a_slotSize a_tokenKind a_tokenValue a_tokenSpan a_roots iS iA iB mN mP mB mH nS nC nE nP nG nW fA fL := by
  unfold wX_eval_44
  refine gx_pay 1 (by omega) R.2.1.1.2.1 ?_
  refine br_f (by decide) ?_
  show wX_eval_59 post f_draftSlot f_slotTokens f_slotRoots f_itemArgument f_itemLeft f_itemRight f_itemChoice f_nodeFresh f_nodeBusy f_nodeNumber f_nodePartial f_modeRead f_modeDemand f_modeEnter f_modeGive f_placeNodes f_defs f_maxTokens (nI (gg_D G)) f_maxPrice (nI (gg_L G)) f_draftTarget f_draftMade 0 (nI 1) (nI pk) 0 2 (nI d) 0 (nI it) (nI mz) (nI hi) (nI nn) (nI nf) a_slotUsed a_slotArity a_slotLocals a_slotSize a_tokenKind a_tokenValue a_tokenSpan a_roots iS iA iB mN mP mB mH nS nC nE nP nG nW fA fL
  unfold wX_eval_59
  refine ⟨20010, ?_⟩
  refine gm_run (y0 := y0) R P (fun s rs ou hz => ?_) 20010 0 1 pk 2 (nI d) 0 it mz hi nn nf iS iA iB mN mP mB mH nS nC nE nP nG nW fA fL rfl hX
  have hL2 := fun z => hL z s
  have hF2 := fun z1 z2 => hF ou rs s z1 z2
  obtain ⟨pr, pk, md, nA, nB, it, mz, hi, nn, nf, iS, iA, iB, mN, mP, mB, mH, nS, nC, nE, nP, nG, nW, fA, fL⟩ := s
  rcases hz with ⟨rfl, hz⟩ | ⟨z1, z2, hz⟩
  · exact br_t rfl (hL2 hz)
  · exact br_f z2 (hF2 z1 z2 hz)
end V
section Q
variable {f_draftTarget f_draftMade f_result f_price f_peak : Int32} {a_slotUsed a_slotArity a_slotLocals a_slotSize a_tokenKind a_tokenValue a_tokenSpan a_roots bk bv : Nat → Int32} {df mt D mp L : Nat}
theorem gd_R (hN : gr_N df mt D mp L) (hk : ∀ q, q < 216 → bk q = a_tokenKind q ∧ bv q = a_tokenValue q) (hq : gr_Q df mt f_draftTarget f_draftMade a_slotUsed a_slotArity a_slotLocals a_slotSize a_tokenKind a_tokenValue a_tokenSpan a_roots) : gp_R (gq_G (nI df) (nI mt) (nI mp) f_draftTarget f_result f_price f_peak bk bv a_slotUsed a_slotSize a_slotArity a_slotLocals D L a_tokenSpan) (gq_us a_slotUsed) (gq_lc a_slotLocals) (gq_rt a_slotSize a_slotLocals a_tokenSpan) := by
  obtain ⟨n1, n2, n3, n4, n5, n6, n7, n8, n9, n10⟩ := hN
  exact gq_R (rts := a_roots) n2 n6 (by omega) (fun d hd hu => gr_SL_cg ⟨rfl, rfl, rfl⟩ (fun q q1 q2 => ⟨(hk q (by omega)).1, (hk q (by omega)).2, rfl⟩) (fun q _ _ => rfl) (hq.1 d hd hu))
theorem gd_P (hN : gr_N df mt D mp L) (hk : ∀ q, q < 216 → bk q = a_tokenKind q ∧ bv q = a_tokenValue q) (hq : gr_Q df mt f_draftTarget f_draftMade a_slotUsed a_slotArity a_slotLocals a_slotSize a_tokenKind a_tokenValue a_tokenSpan a_roots) : gk_P (gq_G (nI df) (nI mt) (nI mp) f_draftTarget f_result f_price f_peak bk bv a_slotUsed a_slotSize a_slotArity a_slotLocals D L a_tokenSpan) (gq_us a_slotUsed) (gq_lc a_slotLocals) (gq_rt a_slotSize a_slotLocals a_tokenSpan) a_slotUsed a_slotArity a_slotLocals a_tokenKind a_tokenValue a_tokenSpan a_roots := by
  refine ⟨fun p hp => ⟨(hk p hp).1.symm, (hk p hp).2.symm⟩, fun d p hT => ?_, fun d hd => ⟨fun h z => z h, fun h => Decidable.of_not_not h⟩, fun d hd hu => ?_⟩
  · obtain ⟨t1, t2, t3, t4⟩ := hT
    obtain ⟨n, a, l, q1, q2, q3, q4, q5, q6, hr, _⟩ := hq.1 d t1 t2
    rw [q4, nI_clamp (by omega)] at t4
    obtain ⟨_, _, _, _, _, s, s1, s2, s3, _⟩ := hr (p - 24 * d) (by omega)
    rw [show 24 * d + (p - 24 * d) = p from by omega] at s1
    have e : gg_s (gq_G (nI df) (nI mt) (nI mp) f_draftTarget f_result f_price f_peak bk bv a_slotUsed a_slotSize a_slotArity a_slotLocals D L a_tokenSpan) p = s := by show (a_tokenSpan p).toNatClampNeg = s; rw [s1, nI_clamp (by omega)]
    rw [e]
    exact ⟨s1, by omega⟩
  · obtain ⟨n, a, l, q1, q2, q3, q4, q5, q6, hr, hc, r1, r2⟩ := hq.1 d hd hu
    have ea : gg_ar (gq_G (nI df) (nI mt) (nI mp) f_draftTarget f_result f_price f_peak bk bv a_slotUsed a_slotSize a_slotArity a_slotLocals D L a_tokenSpan) d = a := gq_are hd hu q5 q2
    have el : gq_lc a_slotLocals d = l := by show (a_slotLocals d).toNatClampNeg = l; rw [q6, nI_clamp (by omega)]
    have er : ∀ i, gq_rt a_slotSize a_slotLocals a_tokenSpan d i = gt_rc a_tokenSpan (24 * d + n - 1) (l - i) := fun i => by
      show gt_rc a_tokenSpan (24 * d + (a_slotSize d).toNatClampNeg - 1) ((a_slotLocals d).toNatClampNeg - i) = _
      rw [q4, q6, nI_clamp (by omega), nI_clamp (by omega)]
    rw [ea, el, er, Nat.sub_self]
    exact ⟨q5, q6, r1, fun i hi => by rw [er]; exact r2 i hi⟩
end Q
end GD
end
section
section GH
section V
variable {f_draftSlot f_slotTokens f_slotRoots f_itemArgument f_itemLeft f_itemRight f_itemChoice f_nodeFresh f_nodeBusy f_nodeNumber f_nodePartial f_modeRead f_modeDemand f_modeEnter f_modeGive f_placeNodes f_draftTarget f_draftMade f_result f_price f_peak f_outcome f_mode f_nowA f_nowB f_items f_marks f_high f_nodes f_frames : Int32} {a_slotUsed a_slotArity a_slotLocals a_slotSize a_tokenKind a_tokenValue a_tokenSpan a_roots a_itemSort a_itemA a_itemB a_markNode a_markPrice a_markBase a_markHigh a_nodeState a_nodeCode a_nodeExtra a_nodePrice a_nodeHeight a_nodeHeld a_frameArgs a_frameLocals : Nat → Int32} {g_items g_frames g_paid g_high g_ending g_outcome g_giving g_value g_expr g_frame : Int32} {b_kind b_val b_itemSort b_itemA b_itemB b_itemFrame b_argExpr b_argFrame : Nat → Int32} {df mt D mp L j : Nat} {v1 v2 v3 v4 : Int32} {post : Int32 → SY → Prop}
theorem gh_Y0 (hj : j < df) (hdf : df ≤ 8) (h : ∃ n, gy_W (nI df) (nI mt) (nI mp) f_draftTarget f_result f_price f_peak (upd (upd (upd b_kind 216 1) 217 1) 218 4) (upd (upd (upd b_val 216 v3) 217 v4) 218 (nI j)) a_slotUsed a_slotSize a_slotArity a_slotLocals D L post n 0 (0, 0, 0, 0, 0, 0, 0, g_value, nI 218, 0, b_itemSort, b_itemA, b_itemB, b_itemFrame, b_argExpr, b_argFrame)) : wpY_eval post (nI df, nI mt, nI D, nI mp, nI L, f_draftTarget, f_result, f_price, f_peak, g_items, g_frames, g_paid, g_high, g_ending, g_outcome, g_giving, g_value, g_expr, g_frame, b_kind, b_val, a_slotUsed, a_slotSize, a_slotArity, a_slotLocals, b_itemSort, b_itemA, b_itemB, b_itemFrame, b_argExpr, b_argFrame) (nI j) (nI 0) v3 v4 := by
  unfold wpY_eval
  refine gr_z1 hj hdf (br_f (by decide) (br_t (by decide) (nm_e (nm_e (nm_e (nm_e (nm_e (nm_e (br_f (by decide) ?_)))))))))
  unfold wY_eval_123
  refine br_t (by decide) ?_
  obtain ⟨n, h⟩ := h
  exact ⟨n, h⟩
theorem gh_Y1 (hj : j < df) (hdf : df ≤ 8) (hD : 8 ≤ D) (hD2 : D ≤ 200) (h : ∃ n, gy_W (nI df) (nI mt) (nI mp) f_draftTarget f_result f_price f_peak (upd (upd (upd b_kind 216 1) 217 1) 218 4) (upd (upd (upd b_val 216 v3) 217 v4) 218 (nI j)) a_slotUsed a_slotSize a_slotArity a_slotLocals D L post n 0 (1, 0, 0, 1, 0, 0, 0, g_value, nI 218, 0, upd b_itemSort 0 1, upd b_itemA 0 (nI 216), upd b_itemB 0 0, upd b_itemFrame 0 0, b_argExpr, b_argFrame)) : wpY_eval post (nI df, nI mt, nI D, nI mp, nI L, f_draftTarget, f_result, f_price, f_peak, g_items, g_frames, g_paid, g_high, g_ending, g_outcome, g_giving, g_value, g_expr, g_frame, b_kind, b_val, a_slotUsed, a_slotSize, a_slotArity, a_slotLocals, b_itemSort, b_itemA, b_itemB, b_itemFrame, b_argExpr, b_argFrame) (nI j) (nI 1) v3 v4 := by
  unfold wpY_eval
  refine gr_z1 hj hdf (br_f (by decide) (br_t (by decide) (nm_e (nm_e (nm_e (nm_e (nm_e (nm_e (br_f (by decide) ?_)))))))))
  unfold wY_eval_123
  refine br_f (by decide) ?_
  refine gy_push (it := 0) (hi := 0) (fr := 0) (pd := 0) (by omega) hD2 (by omega) ?_
  obtain ⟨n, h⟩ := h
  exact ⟨n, h⟩
theorem gh_Y2 (hj : j < df) (hdf : df ≤ 8) (hD : 8 ≤ D) (hD2 : D ≤ 200) (h : ∃ n, gy_W (nI df) (nI mt) (nI mp) f_draftTarget f_result f_price f_peak (upd (upd (upd b_kind 216 1) 217 1) 218 4) (upd (upd (upd b_val 216 v3) 217 v4) 218 (nI j)) a_slotUsed a_slotSize a_slotArity a_slotLocals D L post n 0 (2, 0, 0, 2, 0, 0, 0, g_value, nI 218, 0, upd (upd b_itemSort 0 1) 1 1, upd (upd b_itemA 0 (nI 217)) 1 (nI 216), upd (upd b_itemB 0 0) 1 0, upd (upd b_itemFrame 0 0) 1 0, b_argExpr, b_argFrame)) : wpY_eval post (nI df, nI mt, nI D, nI mp, nI L, f_draftTarget, f_result, f_price, f_peak, g_items, g_frames, g_paid, g_high, g_ending, g_outcome, g_giving, g_value, g_expr, g_frame, b_kind, b_val, a_slotUsed, a_slotSize, a_slotArity, a_slotLocals, b_itemSort, b_itemA, b_itemB, b_itemFrame, b_argExpr, b_argFrame) (nI j) (nI 2) v3 v4 := by
  unfold wpY_eval
  refine gr_z1 hj hdf (br_f (by decide) (br_t (by decide) (nm_e (nm_e (nm_e (nm_e (nm_e (nm_e (br_t (by decide) ?_)))))))))
  refine gy_push (it := 0) (hi := 0) (fr := 0) (pd := 0) (by omega) hD2 (by omega) ?_
  show wY_eval_123 post (nI 2) (nI df) (nI mt) (nI D) (nI mp) (nI L) f_draftTarget f_result f_price f_peak (nI 1) (nI 0) (nI 0) (nI 1) 0 0 g_giving g_value g_expr g_frame ((upd (upd (upd b_kind 216 1) 217 1) 218 4)) ((upd (upd (upd b_val 216 v3) 217 v4) 218 (nI j))) a_slotUsed a_slotSize a_slotArity a_slotLocals (upd b_itemSort 0 1) (upd b_itemA 0 (nI 217)) (upd b_itemB 0 0) (upd b_itemFrame 0 0) b_argExpr b_argFrame
  unfold wY_eval_123
  refine br_f (by decide) ?_
  refine gy_push (it := 1) (hi := 1) (fr := 0) (pd := 0) (by omega) hD2 (by omega) ?_
  obtain ⟨n, h⟩ := h
  exact ⟨n, h⟩
theorem gh_lim {bk bv : Nat → Int32} {y0 : gc_Y} (h : ∃ y', gy_r (nI df) (nI mt) (nI mp) f_draftTarget f_result f_price f_peak bk bv a_slotUsed a_slotSize a_slotArity a_slotLocals D L y0 y' ∧ gc_LM y') (h0 : gc_it y0 ≤ 200)
    (hp : ∀ (it fr pd hi : Nat) (gv vv ex fm : Int32) (iS iA iB iF aE aF : Nat → Int32), post 3 (nI df, nI mt, nI D, nI mp, nI L, f_draftTarget, 0, 0, 0, nI it, nI fr, nI pd, nI hi, 3, 0, gv, vv, ex, fm, bk, bv, a_slotUsed, a_slotSize, a_slotArity, a_slotLocals, iS, iA, iB, iF, aE, aF)) : ∃ n, gy_W (nI df) (nI mt) (nI mp) f_draftTarget f_result f_price f_peak bk bv a_slotUsed a_slotSize a_slotArity a_slotLocals D L post n 0 y0 := by
  obtain ⟨y', r, lm⟩ := h
  obtain ⟨it, fr, pd, hi, en, ou, gv, vv, ex, fm, iS, iA, iB, iF, aE, aF⟩ := y'
  obtain ⟨rfl, rfl, l3, l4⟩ := lm
  refine gd_y r ?_ ?_
  · show 2 * pd + 2 + gc_it y0 ≤ 20000
    omega
  · exact And.intro (by decide) (br_t rfl (br_t rfl (hp it fr pd hi gv vv ex fm iS iA iB iF aE aF)))
theorem gh_fin {bk bv : Nat → Int32} {y0 : gc_Y} {E O : Int32} {P pk : Nat} (e0 : ¬ E = 0) (e3 : ¬ E = 3) (h : ∃ y', gy_r (nI df) (nI mt) (nI mp) f_draftTarget f_result f_price f_peak bk bv a_slotUsed a_slotSize a_slotArity a_slotLocals D L y0 y' ∧ gv_FN y' E O P pk) (h0 : gc_it y0 ≤ 200)
    (hp : ∀ (it fr pd hi : Nat) (gv vv ex fm : Int32) (iS iA iB iF aE aF : Nat → Int32), post E (nI df, nI mt, nI D, nI mp, nI L, f_draftTarget, O, nI P, nI pk, nI it, nI fr, nI pd, nI hi, E, O, gv, vv, ex, fm, bk, bv, a_slotUsed, a_slotSize, a_slotArity, a_slotLocals, iS, iA, iB, iF, aE, aF)) : ∃ n, gy_W (nI df) (nI mt) (nI mp) f_draftTarget f_result f_price f_peak bk bv a_slotUsed a_slotSize a_slotArity a_slotLocals D L post n 0 y0 := by
  obtain ⟨y', r, fn⟩ := h
  obtain ⟨it, fr, pd, hi, en, ou, gv, vv, ex, fm, iS, iA, iB, iF, aE, aF⟩ := y'
  obtain ⟨rfl, rfl, rfl, rfl, l4, l5⟩ := fn
  refine gd_y r ?_ ?_
  · show 2 * pd + (if en = 0 then (if gv = 0 then 1 else 0) else 2) + gc_it y0 ≤ 20000
    rw [if_neg e0]
    omega
  · exact And.intro e0 (br_f e3 (br_f e3 (hp it fr pd hi gv vv ex fm iS iA iB iF aE aF)))
end V
section X
variable {f_draftSlot f_slotTokens f_slotRoots f_itemArgument f_itemLeft f_itemRight f_itemChoice f_nodeFresh f_nodeBusy f_nodeNumber f_nodePartial f_modeRead f_modeDemand f_modeEnter f_modeGive f_placeNodes f_defs f_maxTokens f_maxPrice f_draftTarget f_draftMade : Int32} {a_slotUsed a_slotArity a_slotLocals a_slotSize a_tokenKind a_tokenValue a_tokenSpan a_roots : Nat → Int32} {D L pr pk it mz hi nn nf : Nat} {rs ou md nA nB : Int32} {iS iA iB mN mP mB mH nS nC nE nP nG nW fA fL : Nat → Int32}
theorem gh_pi1 {ps : SX → Prop} {v : Int32} (hD : 8 ≤ D) (hD2 : D ≤ 200)
    (h : ps (f_draftSlot, f_slotTokens, f_slotRoots, f_itemArgument, f_itemLeft, f_itemRight, f_itemChoice, f_nodeFresh, f_nodeBusy, f_nodeNumber, f_nodePartial, f_modeRead, f_modeDemand, f_modeEnter, f_modeGive, f_placeNodes, f_defs, f_maxTokens, nI D, f_maxPrice, nI L, f_draftTarget, f_draftMade, rs, nI pr, nI 1, ou, md, nA, nB, nI 1, nI mz, nI 1, nI 9, nI nf, a_slotUsed, a_slotArity, a_slotLocals, a_slotSize, a_tokenKind, a_tokenValue, a_tokenSpan, a_roots, upd iS 0 0, upd iA 0 (nI 8), upd iB 0 0, mN, mP, mB, mH, upd nS 8 2, upd nC 8 v, upd nE 8 0, upd nP 8 1, upd nG 8 0, nW, fA, fL)) : wpX_pushInteger ps (f_draftSlot, f_slotTokens, f_slotRoots, f_itemArgument, f_itemLeft, f_itemRight, f_itemChoice, f_nodeFresh, f_nodeBusy, f_nodeNumber, f_nodePartial, f_modeRead, f_modeDemand, f_modeEnter, f_modeGive, f_placeNodes, f_defs, f_maxTokens, nI D, f_maxPrice, nI L, f_draftTarget, f_draftMade, rs, nI pr, nI 0, ou, md, nA, nB, nI 0, nI mz, nI 0, nI 8, nI nf, a_slotUsed, a_slotArity, a_slotLocals, a_slotSize, a_tokenKind, a_tokenValue, a_tokenSpan, a_roots, iS, iA, iB, mN, mP, mB, mH, nS, nC, nE, nP, nG, nW, fA, fL) v :=
  gd_pi (it := 0) (hi := 0) (pk := 0) (nn := 8) (by omega) (by omega) hD2 (by omega) (by omega) h
theorem gh_pi2 {ps : SX → Prop} {v : Int32} (hD : 8 ≤ D) (hD2 : D ≤ 200)
    (h : ps (f_draftSlot, f_slotTokens, f_slotRoots, f_itemArgument, f_itemLeft, f_itemRight, f_itemChoice, f_nodeFresh, f_nodeBusy, f_nodeNumber, f_nodePartial, f_modeRead, f_modeDemand, f_modeEnter, f_modeGive, f_placeNodes, f_defs, f_maxTokens, nI D, f_maxPrice, nI L, f_draftTarget, f_draftMade, rs, nI pr, nI 2, ou, md, nA, nB, nI 2, nI mz, nI 2, nI 10, nI nf, a_slotUsed, a_slotArity, a_slotLocals, a_slotSize, a_tokenKind, a_tokenValue, a_tokenSpan, a_roots, upd iS 1 0, upd iA 1 (nI 9), upd iB 1 0, mN, mP, mB, mH, upd nS 9 2, upd nC 9 v, upd nE 9 0, upd nP 9 1, upd nG 9 0, nW, fA, fL)) : wpX_pushInteger ps (f_draftSlot, f_slotTokens, f_slotRoots, f_itemArgument, f_itemLeft, f_itemRight, f_itemChoice, f_nodeFresh, f_nodeBusy, f_nodeNumber, f_nodePartial, f_modeRead, f_modeDemand, f_modeEnter, f_modeGive, f_placeNodes, f_defs, f_maxTokens, nI D, f_maxPrice, nI L, f_draftTarget, f_draftMade, rs, nI pr, nI 1, ou, md, nA, nB, nI 1, nI mz, nI 1, nI 9, nI nf, a_slotUsed, a_slotArity, a_slotLocals, a_slotSize, a_tokenKind, a_tokenValue, a_tokenSpan, a_roots, iS, iA, iB, mN, mP, mB, mH, nS, nC, nE, nP, nG, nW, fA, fL) v :=
  gd_pi (it := 1) (hi := 1) (pk := 1) (nn := 9) (by omega) (by omega) hD2 (by omega) (by omega) h
end X
end GH
end
section
section GU
section V
variable {f_draftSlot f_slotTokens f_slotRoots f_itemArgument f_itemLeft f_itemRight f_itemChoice f_nodeFresh f_nodeBusy f_nodeNumber f_nodePartial f_modeRead f_modeDemand f_modeEnter f_modeGive f_placeNodes f_draftTarget f_draftMade f_result f_price f_peak f_outcome f_mode f_nowA f_nowB f_items f_marks f_high f_nodes f_frames : Int32} {a_slotUsed a_slotArity a_slotLocals a_slotSize a_tokenKind a_tokenValue a_tokenSpan a_roots a_itemSort a_itemA a_itemB a_markNode a_markPrice a_markBase a_markHigh a_nodeState a_nodeCode a_nodeExtra a_nodePrice a_nodeHeight a_nodeHeld a_frameArgs a_frameLocals : Nat → Int32} {g_items g_frames g_paid g_high g_ending g_outcome g_giving g_value g_expr g_frame : Int32} {b_kind b_val b_itemSort b_itemA b_itemB b_itemFrame b_argExpr b_argFrame : Nat → Int32} {df mt D mp L j k : Nat} {v1 v2 v3 v4 : Int32} {mN mP mB mH nS nC nE nP nG nW fA fL iS iA iB : Nat → Int32}
theorem gu_k (hk : ∀ q, q < 216 → b_kind q = a_tokenKind q ∧ b_val q = a_tokenValue q) : ∀ q, q < 216 → (upd (upd (upd b_kind 216 1) 217 1) 218 4) q = a_tokenKind q ∧ (upd (upd (upd b_val 216 v3) 217 v4) 218 (nI j)) q = a_tokenValue q := by
  intro q hq
  rw [pk_un (by omega), pk_un (by omega), pk_un (by omega), pk_un (by omega), pk_un (by omega), pk_un (by omega)]
  exact hk q hq
theorem gu_rg (a : Nat → Int32) : ∀ n, n < 8 → gx_rg a 0 8 (fun _ => 0) n = 0 := by
  intro n hn
  have := gx_rgi (a := a) (s := 0) (m := 8) (g := fun _ => 0) hn
  rw [Nat.zero_add] at this
  exact this
theorem gu_216 : gg_k (gq_G (nI df) (nI mt) (nI mp) f_draftTarget f_result f_price f_peak (upd (upd (upd b_kind 216 1) 217 1) 218 4) (upd (upd (upd b_val 216 v3) 217 v4) 218 (nI j)) a_slotUsed a_slotSize a_slotArity a_slotLocals D L a_tokenSpan) 216 = 1 ∧ gg_v (gq_G (nI df) (nI mt) (nI mp) f_draftTarget f_result f_price f_peak (upd (upd (upd b_kind 216 1) 217 1) 218 4) (upd (upd (upd b_val 216 v3) 217 v4) 218 (nI j)) a_slotUsed a_slotSize a_slotArity a_slotLocals D L a_tokenSpan) 216 = v3 := by
  show (upd (upd (upd b_kind 216 1) 217 1) 218 4) 216 = 1 ∧ (upd (upd (upd b_val 216 v3) 217 v4) 218 (nI j)) 216 = v3
  rw [pk_un (by omega), pk_un (by omega), pk_us, pk_un (by omega), pk_un (by omega), pk_us]
  exact ⟨rfl, rfl⟩
theorem gu_217 : gg_k (gq_G (nI df) (nI mt) (nI mp) f_draftTarget f_result f_price f_peak (upd (upd (upd b_kind 216 1) 217 1) 218 4) (upd (upd (upd b_val 216 v3) 217 v4) 218 (nI j)) a_slotUsed a_slotSize a_slotArity a_slotLocals D L a_tokenSpan) 217 = 1 ∧ gg_v (gq_G (nI df) (nI mt) (nI mp) f_draftTarget f_result f_price f_peak (upd (upd (upd b_kind 216 1) 217 1) 218 4) (upd (upd (upd b_val 216 v3) 217 v4) 218 (nI j)) a_slotUsed a_slotSize a_slotArity a_slotLocals D L a_tokenSpan) 217 = v4 := by
  show (upd (upd (upd b_kind 216 1) 217 1) 218 4) 217 = 1 ∧ (upd (upd (upd b_val 216 v3) 217 v4) 218 (nI j)) 217 = v4
  rw [pk_un (by omega), pk_us, pk_un (by omega), pk_us]
  exact ⟨rfl, rfl⟩
theorem gu_218 : gg_k (gq_G (nI df) (nI mt) (nI mp) f_draftTarget f_result f_price f_peak (upd (upd (upd b_kind 216 1) 217 1) 218 4) (upd (upd (upd b_val 216 v3) 217 v4) 218 (nI j)) a_slotUsed a_slotSize a_slotArity a_slotLocals D L a_tokenSpan) 218 = 4 ∧ gg_v (gq_G (nI df) (nI mt) (nI mp) f_draftTarget f_result f_price f_peak (upd (upd (upd b_kind 216 1) 217 1) 218 4) (upd (upd (upd b_val 216 v3) 217 v4) 218 (nI j)) a_slotUsed a_slotSize a_slotArity a_slotLocals D L a_tokenSpan) 218 = nI j := by
  show (upd (upd (upd b_kind 216 1) 217 1) 218 4) 218 = 4 ∧ (upd (upd (upd b_val 216 v3) 217 v4) 218 (nI j)) 218 = nI j
  rw [pk_us, pk_us]
  exact ⟨rfl, rfl⟩
theorem gu_R (hN : gr_N df mt D mp L) (hk : ∀ q, q < 216 → b_kind q = a_tokenKind q ∧ b_val q = a_tokenValue q) (hq : gr_Q df mt f_draftTarget f_draftMade a_slotUsed a_slotArity a_slotLocals a_slotSize a_tokenKind a_tokenValue a_tokenSpan a_roots) : gp_R (gq_G (nI df) (nI mt) (nI mp) f_draftTarget f_result f_price f_peak (upd (upd (upd b_kind 216 1) 217 1) 218 4) (upd (upd (upd b_val 216 v3) 217 v4) 218 (nI j)) a_slotUsed a_slotSize a_slotArity a_slotLocals D L a_tokenSpan) (gq_us a_slotUsed) (gq_lc a_slotLocals) (gq_rt a_slotSize a_slotLocals a_tokenSpan) := gd_R hN (gu_k hk) hq
theorem gu_P (hN : gr_N df mt D mp L) (hk : ∀ q, q < 216 → b_kind q = a_tokenKind q ∧ b_val q = a_tokenValue q) (hq : gr_Q df mt f_draftTarget f_draftMade a_slotUsed a_slotArity a_slotLocals a_slotSize a_tokenKind a_tokenValue a_tokenSpan a_roots) : gk_P (gq_G (nI df) (nI mt) (nI mp) f_draftTarget f_result f_price f_peak (upd (upd (upd b_kind 216 1) 217 1) 218 4) (upd (upd (upd b_val 216 v3) 217 v4) 218 (nI j)) a_slotUsed a_slotSize a_slotArity a_slotLocals D L a_tokenSpan) (gq_us a_slotUsed) (gq_lc a_slotLocals) (gq_rt a_slotSize a_slotLocals a_tokenSpan) a_slotUsed a_slotArity a_slotLocals a_tokenKind a_tokenValue a_tokenSpan a_roots := gd_P hN (gu_k hk) hq
theorem gu_i0 (R : gp_R (gq_G (nI df) (nI mt) (nI mp) f_draftTarget f_result f_price f_peak (upd (upd (upd b_kind 216 1) 217 1) 218 4) (upd (upd (upd b_val 216 v3) 217 v4) 218 (nI j)) a_slotUsed a_slotSize a_slotArity a_slotLocals D L a_tokenSpan) (gq_us a_slotUsed) (gq_lc a_slotLocals) (gq_rt a_slotSize a_slotLocals a_tokenSpan)) (hN : gr_N df mt D mp L) (hj : j < df) :
    gk_X (gq_G (nI df) (nI mt) (nI mp) f_draftTarget f_result f_price f_peak (upd (upd (upd b_kind 216 1) 217 1) 218 4) (upd (upd (upd b_val 216 v3) 217 v4) 218 (nI j)) a_slotUsed a_slotSize a_slotArity a_slotLocals D L a_tokenSpan) (gq_us a_slotUsed) (gq_lc a_slotLocals) (gq_rt a_slotSize a_slotLocals a_tokenSpan) (0, 0, 0, 0, 0, 0, 0, g_value, nI 218, 0, b_itemSort, b_itemA, b_itemB, b_itemFrame, b_argExpr, b_argFrame) (1, 0, 2, nI j, 0, 0, 0, 0, 8, 0, iS, iA, iB, mN, mP, mB, mH, gx_rg nS 0 8 (fun _ => 0), nC, nE, nP, nG, nW, fA, fL) 0 := by
  obtain ⟨n1, n2, n3, n4, n5, n6, n7, n8, n9, n10⟩ := hN
  exact gm_init (cnt := 0) (tk := fun _ => 216) R (by omega) n5 n9 (by omega) (fun i hi => absurd hi (by omega)) (fun i hi => absurd hi (by omega)) (gu_rg nS) (fun i hi => absurd hi (by omega)) gu_218
theorem gu_i1 (R : gp_R (gq_G (nI df) (nI mt) (nI mp) f_draftTarget f_result f_price f_peak (upd (upd (upd b_kind 216 1) 217 1) 218 4) (upd (upd (upd b_val 216 v3) 217 v4) 218 (nI j)) a_slotUsed a_slotSize a_slotArity a_slotLocals D L a_tokenSpan) (gq_us a_slotUsed) (gq_lc a_slotLocals) (gq_rt a_slotSize a_slotLocals a_tokenSpan)) (hN : gr_N df mt D mp L) (hj : j < df) :
    gk_X (gq_G (nI df) (nI mt) (nI mp) f_draftTarget f_result f_price f_peak (upd (upd (upd b_kind 216 1) 217 1) 218 4) (upd (upd (upd b_val 216 v3) 217 v4) 218 (nI j)) a_slotUsed a_slotSize a_slotArity a_slotLocals D L a_tokenSpan) (gq_us a_slotUsed) (gq_lc a_slotLocals) (gq_rt a_slotSize a_slotLocals a_tokenSpan) (1, 0, 0, 1, 0, 0, 0, g_value, nI 218, 0, upd b_itemSort 0 1, upd b_itemA 0 (nI 216), upd b_itemB 0 0, upd b_itemFrame 0 0, b_argExpr, b_argFrame) (1, 1, 2, nI j, 0, 1, 0, 1, 9, 0, upd iS 0 0, upd iA 0 (nI 8), upd iB 0 0, mN, mP, mB, mH, upd (gx_rg nS 0 8 (fun _ => 0)) 8 2, upd nC 8 v3, upd nE 8 0, upd nP 8 1, upd nG 8 0, nW, fA, fL) 0 := by
  obtain ⟨n1, n2, n3, n4, n5, n6, n7, n8, n9, n10⟩ := hN
  refine gm_init (cnt := 1) (tk := fun _ => 216) R (by omega) n5 n9 (by omega) (fun i hi => ⟨by omega, gu_216.1⟩) (fun i hi => ?_) (fun n hn => ?_) (fun i hi => ?_) gu_218
  · obtain rfl : i = 0 := by omega
    exact ⟨pk_us, pk_us, pk_us, pk_us⟩
  · rw [pk_un (by omega)]; exact gu_rg nS n hn
  · obtain rfl : i = 0 := by omega
    rw [gu_216.2]
    exact ⟨pk_us, pk_us, pk_us, pk_us⟩
theorem gu_i2 (R : gp_R (gq_G (nI df) (nI mt) (nI mp) f_draftTarget f_result f_price f_peak (upd (upd (upd b_kind 216 1) 217 1) 218 4) (upd (upd (upd b_val 216 v3) 217 v4) 218 (nI j)) a_slotUsed a_slotSize a_slotArity a_slotLocals D L a_tokenSpan) (gq_us a_slotUsed) (gq_lc a_slotLocals) (gq_rt a_slotSize a_slotLocals a_tokenSpan)) (hN : gr_N df mt D mp L) (hj : j < df) :
    gk_X (gq_G (nI df) (nI mt) (nI mp) f_draftTarget f_result f_price f_peak (upd (upd (upd b_kind 216 1) 217 1) 218 4) (upd (upd (upd b_val 216 v3) 217 v4) 218 (nI j)) a_slotUsed a_slotSize a_slotArity a_slotLocals D L a_tokenSpan) (gq_us a_slotUsed) (gq_lc a_slotLocals) (gq_rt a_slotSize a_slotLocals a_tokenSpan) (2, 0, 0, 2, 0, 0, 0, g_value, nI 218, 0, upd (upd b_itemSort 0 1) 1 1, upd (upd b_itemA 0 (nI 217)) 1 (nI 216), upd (upd b_itemB 0 0) 1 0, upd (upd b_itemFrame 0 0) 1 0, b_argExpr, b_argFrame) (1, 2, 2, nI j, 0, 2, 0, 2, 10, 0, upd (upd iS 0 0) 1 0, upd (upd iA 0 (nI 8)) 1 (nI 9), upd (upd iB 0 0) 1 0, mN, mP, mB, mH, upd (upd (gx_rg nS 0 8 (fun _ => 0)) 8 2) 9 2, upd (upd nC 8 v4) 9 v3, upd (upd nE 8 0) 9 0, upd (upd nP 8 1) 9 1, upd (upd nG 8 0) 9 0, nW, fA, fL) 0 := by
  obtain ⟨n1, n2, n3, n4, n5, n6, n7, n8, n9, n10⟩ := hN
  have t0 : (if (0 : Nat) = 0 then (217 : Nat) else 216) = 217 := rfl
  have t1 : (if (1 : Nat) = 0 then (217 : Nat) else 216) = 216 := rfl
  refine gm_init (cnt := 2) (tk := fun i => if i = 0 then 217 else 216) R (by omega) n5 n9 (by omega) (fun i hi => ?_) (fun i hi => ?_) (fun n hn => ?_) (fun i hi => ?_) gu_218
  · have h01 : i = 0 ∨ i = 1 := by omega
    rcases h01 with rfl | rfl
    · rw [t0]; exact ⟨by omega, gu_217.1⟩
    · rw [t1]; exact ⟨by omega, gu_216.1⟩
  · have h01 : i = 0 ∨ i = 1 := by omega
    rcases h01 with rfl | rfl
    · rw [t0]; exact ⟨(pk_un (by omega)).trans pk_us, (pk_un (by omega)).trans pk_us, (pk_un (by omega)).trans pk_us, (pk_un (by omega)).trans pk_us⟩
    · rw [t1]; exact ⟨pk_us, pk_us, pk_us, pk_us⟩
  · rw [pk_un (by omega), pk_un (by omega)]; exact gu_rg nS n hn
  · have h01 : i = 0 ∨ i = 1 := by omega
    rcases h01 with rfl | rfl
    · rw [t0, gu_217.2]; exact ⟨(pk_un (by omega)).trans pk_us, (pk_un (by omega)).trans pk_us, (pk_un (by omega)).trans pk_us, (pk_un (by omega)).trans pk_us⟩
    · rw [t1, gu_216.2]; exact ⟨pk_us, pk_us, pk_us, pk_us⟩
end V
end GU
end
section
section GU2
section V
variable {f_draftSlot f_slotTokens f_slotRoots f_itemArgument f_itemLeft f_itemRight f_itemChoice f_nodeFresh f_nodeBusy f_nodeNumber f_nodePartial f_modeRead f_modeDemand f_modeEnter f_modeGive f_placeNodes f_draftTarget f_draftMade f_result f_price f_peak f_outcome f_mode f_nowA f_nowB f_items f_marks f_high f_nodes f_frames : Int32} {a_slotUsed a_slotArity a_slotLocals a_slotSize a_tokenKind a_tokenValue a_tokenSpan a_roots a_itemSort a_itemA a_itemB a_markNode a_markPrice a_markBase a_markHigh a_nodeState a_nodeCode a_nodeExtra a_nodePrice a_nodeHeight a_nodeHeld a_frameArgs a_frameLocals : Nat → Int32} {g_items g_frames g_paid g_high g_ending g_outcome g_giving g_value g_expr g_frame : Int32} {b_kind b_val b_itemSort b_itemA b_itemB b_itemFrame b_argExpr b_argFrame : Nat → Int32} {df mt D mp L j k : Nat} {v1 v2 v3 v4 : Int32}
theorem gu_L0 {u : SX} (hN : gr_N df mt D mp L) (hj : j < df) (hr : ∃ y', gg_r (gq_G (nI df) (nI mt) (nI mp) f_draftTarget f_result f_price f_peak (upd (upd (upd b_kind 216 1) 217 1) 218 4) (upd (upd (upd b_val 216 v3) 217 v4) 218 (nI j)) a_slotUsed a_slotSize a_slotArity a_slotLocals D L a_tokenSpan) (0, 0, 0, 0, 0, 0, 0, g_value, nI 218, 0, b_itemSort, b_itemA, b_itemB, b_itemFrame, b_argExpr, b_argFrame) y' ∧ gc_LM y')
    (hu : ∀ (it fr pd hi : Nat) (gv vv ex fm : Int32) (iS iA iB iF aE aF : Nat → Int32), i_Rel (k + 5) u (nI df, nI mt, nI D, nI mp, nI L, f_draftTarget, 0, 0, 0, nI it, nI fr, nI pd, nI hi, 3, 0, gv, vv, ex, fm, (upd (upd (upd b_kind 216 1) 217 1) 218 4), (upd (upd (upd b_val 216 v3) 217 v4) 218 (nI j)), a_slotUsed, a_slotSize, a_slotArity, a_slotLocals, iS, iA, iB, iF, aE, aF)) :
    wpY_eval (fun r' v' => r' = 3 ∧ i_Rel (k + 5) u v') (nI df, nI mt, nI D, nI mp, nI L, f_draftTarget, f_result, f_price, f_peak, g_items, g_frames, g_paid, g_high, g_ending, g_outcome, g_giving, g_value, g_expr, g_frame, b_kind, b_val, a_slotUsed, a_slotSize, a_slotArity, a_slotLocals, b_itemSort, b_itemA, b_itemB, b_itemFrame, b_argExpr, b_argFrame) (nI j) (nI 0) v3 v4 := by
  obtain ⟨n1, n2, n3, n4, n5, n6, n7, n8, n9, n10⟩ := hN
  exact gh_Y0 hj n2 (gh_lim hr (show 0 ≤ 200 by omega) (fun it fr pd hi gv vv ex fm iS iA iB iF aE aF => ⟨rfl, hu it fr pd hi gv vv ex fm iS iA iB iF aE aF⟩))
theorem gu_F0 {u : SX} {E O : Int32} {pr pk : Nat} (e0 : ¬ E = 0) (e3 : ¬ E = 3) (hN : gr_N df mt D mp L) (hj : j < df) (hr : ∃ y', gg_r (gq_G (nI df) (nI mt) (nI mp) f_draftTarget f_result f_price f_peak (upd (upd (upd b_kind 216 1) 217 1) 218 4) (upd (upd (upd b_val 216 v3) 217 v4) 218 (nI j)) a_slotUsed a_slotSize a_slotArity a_slotLocals D L a_tokenSpan) (0, 0, 0, 0, 0, 0, 0, g_value, nI 218, 0, b_itemSort, b_itemA, b_itemB, b_itemFrame, b_argExpr, b_argFrame) y' ∧ gv_FN y' E O pr pk)
    (hu : ∀ (it fr pd hi : Nat) (gv vv ex fm : Int32) (iS iA iB iF aE aF : Nat → Int32), i_Rel (k + 5) u (nI df, nI mt, nI D, nI mp, nI L, f_draftTarget, O, nI pr, nI pk, nI it, nI fr, nI pd, nI hi, E, O, gv, vv, ex, fm, (upd (upd (upd b_kind 216 1) 217 1) 218 4), (upd (upd (upd b_val 216 v3) 217 v4) 218 (nI j)), a_slotUsed, a_slotSize, a_slotArity, a_slotLocals, iS, iA, iB, iF, aE, aF)) :
    wpY_eval (fun r' v' => r' = E ∧ i_Rel (k + 5) u v') (nI df, nI mt, nI D, nI mp, nI L, f_draftTarget, f_result, f_price, f_peak, g_items, g_frames, g_paid, g_high, g_ending, g_outcome, g_giving, g_value, g_expr, g_frame, b_kind, b_val, a_slotUsed, a_slotSize, a_slotArity, a_slotLocals, b_itemSort, b_itemA, b_itemB, b_itemFrame, b_argExpr, b_argFrame) (nI j) (nI 0) v3 v4 := by
  obtain ⟨n1, n2, n3, n4, n5, n6, n7, n8, n9, n10⟩ := hN
  exact gh_Y0 hj n2 (gh_fin e0 e3 hr (show 0 ≤ 200 by omega) (fun it fr pd hi gv vv ex fm iS iA iB iF aE aF => ⟨rfl, hu it fr pd hi gv vv ex fm iS iA iB iF aE aF⟩))
theorem gu_L1 {u : SX} (hN : gr_N df mt D mp L) (hj : j < df) (hr : ∃ y', gg_r (gq_G (nI df) (nI mt) (nI mp) f_draftTarget f_result f_price f_peak (upd (upd (upd b_kind 216 1) 217 1) 218 4) (upd (upd (upd b_val 216 v3) 217 v4) 218 (nI j)) a_slotUsed a_slotSize a_slotArity a_slotLocals D L a_tokenSpan) (1, 0, 0, 1, 0, 0, 0, g_value, nI 218, 0, upd b_itemSort 0 1, upd b_itemA 0 (nI 216), upd b_itemB 0 0, upd b_itemFrame 0 0, b_argExpr, b_argFrame) y' ∧ gc_LM y')
    (hu : ∀ (it fr pd hi : Nat) (gv vv ex fm : Int32) (iS iA iB iF aE aF : Nat → Int32), i_Rel (k + 5) u (nI df, nI mt, nI D, nI mp, nI L, f_draftTarget, 0, 0, 0, nI it, nI fr, nI pd, nI hi, 3, 0, gv, vv, ex, fm, (upd (upd (upd b_kind 216 1) 217 1) 218 4), (upd (upd (upd b_val 216 v3) 217 v4) 218 (nI j)), a_slotUsed, a_slotSize, a_slotArity, a_slotLocals, iS, iA, iB, iF, aE, aF)) :
    wpY_eval (fun r' v' => r' = 3 ∧ i_Rel (k + 5) u v') (nI df, nI mt, nI D, nI mp, nI L, f_draftTarget, f_result, f_price, f_peak, g_items, g_frames, g_paid, g_high, g_ending, g_outcome, g_giving, g_value, g_expr, g_frame, b_kind, b_val, a_slotUsed, a_slotSize, a_slotArity, a_slotLocals, b_itemSort, b_itemA, b_itemB, b_itemFrame, b_argExpr, b_argFrame) (nI j) (nI 1) v3 v4 := by
  obtain ⟨n1, n2, n3, n4, n5, n6, n7, n8, n9, n10⟩ := hN
  exact gh_Y1 hj n2 n5 n6 (gh_lim hr (show 1 ≤ 200 by omega) (fun it fr pd hi gv vv ex fm iS iA iB iF aE aF => ⟨rfl, hu it fr pd hi gv vv ex fm iS iA iB iF aE aF⟩))
theorem gu_F1 {u : SX} {E O : Int32} {pr pk : Nat} (e0 : ¬ E = 0) (e3 : ¬ E = 3) (hN : gr_N df mt D mp L) (hj : j < df) (hr : ∃ y', gg_r (gq_G (nI df) (nI mt) (nI mp) f_draftTarget f_result f_price f_peak (upd (upd (upd b_kind 216 1) 217 1) 218 4) (upd (upd (upd b_val 216 v3) 217 v4) 218 (nI j)) a_slotUsed a_slotSize a_slotArity a_slotLocals D L a_tokenSpan) (1, 0, 0, 1, 0, 0, 0, g_value, nI 218, 0, upd b_itemSort 0 1, upd b_itemA 0 (nI 216), upd b_itemB 0 0, upd b_itemFrame 0 0, b_argExpr, b_argFrame) y' ∧ gv_FN y' E O pr pk)
    (hu : ∀ (it fr pd hi : Nat) (gv vv ex fm : Int32) (iS iA iB iF aE aF : Nat → Int32), i_Rel (k + 5) u (nI df, nI mt, nI D, nI mp, nI L, f_draftTarget, O, nI pr, nI pk, nI it, nI fr, nI pd, nI hi, E, O, gv, vv, ex, fm, (upd (upd (upd b_kind 216 1) 217 1) 218 4), (upd (upd (upd b_val 216 v3) 217 v4) 218 (nI j)), a_slotUsed, a_slotSize, a_slotArity, a_slotLocals, iS, iA, iB, iF, aE, aF)) :
    wpY_eval (fun r' v' => r' = E ∧ i_Rel (k + 5) u v') (nI df, nI mt, nI D, nI mp, nI L, f_draftTarget, f_result, f_price, f_peak, g_items, g_frames, g_paid, g_high, g_ending, g_outcome, g_giving, g_value, g_expr, g_frame, b_kind, b_val, a_slotUsed, a_slotSize, a_slotArity, a_slotLocals, b_itemSort, b_itemA, b_itemB, b_itemFrame, b_argExpr, b_argFrame) (nI j) (nI 1) v3 v4 := by
  obtain ⟨n1, n2, n3, n4, n5, n6, n7, n8, n9, n10⟩ := hN
  exact gh_Y1 hj n2 n5 n6 (gh_fin e0 e3 hr (show 1 ≤ 200 by omega) (fun it fr pd hi gv vv ex fm iS iA iB iF aE aF => ⟨rfl, hu it fr pd hi gv vv ex fm iS iA iB iF aE aF⟩))
theorem gu_L2 {u : SX} (hN : gr_N df mt D mp L) (hj : j < df) (hr : ∃ y', gg_r (gq_G (nI df) (nI mt) (nI mp) f_draftTarget f_result f_price f_peak (upd (upd (upd b_kind 216 1) 217 1) 218 4) (upd (upd (upd b_val 216 v3) 217 v4) 218 (nI j)) a_slotUsed a_slotSize a_slotArity a_slotLocals D L a_tokenSpan) (2, 0, 0, 2, 0, 0, 0, g_value, nI 218, 0, upd (upd b_itemSort 0 1) 1 1, upd (upd b_itemA 0 (nI 217)) 1 (nI 216), upd (upd b_itemB 0 0) 1 0, upd (upd b_itemFrame 0 0) 1 0, b_argExpr, b_argFrame) y' ∧ gc_LM y')
    (hu : ∀ (it fr pd hi : Nat) (gv vv ex fm : Int32) (iS iA iB iF aE aF : Nat → Int32), i_Rel (k + 5) u (nI df, nI mt, nI D, nI mp, nI L, f_draftTarget, 0, 0, 0, nI it, nI fr, nI pd, nI hi, 3, 0, gv, vv, ex, fm, (upd (upd (upd b_kind 216 1) 217 1) 218 4), (upd (upd (upd b_val 216 v3) 217 v4) 218 (nI j)), a_slotUsed, a_slotSize, a_slotArity, a_slotLocals, iS, iA, iB, iF, aE, aF)) :
    wpY_eval (fun r' v' => r' = 3 ∧ i_Rel (k + 5) u v') (nI df, nI mt, nI D, nI mp, nI L, f_draftTarget, f_result, f_price, f_peak, g_items, g_frames, g_paid, g_high, g_ending, g_outcome, g_giving, g_value, g_expr, g_frame, b_kind, b_val, a_slotUsed, a_slotSize, a_slotArity, a_slotLocals, b_itemSort, b_itemA, b_itemB, b_itemFrame, b_argExpr, b_argFrame) (nI j) (nI 2) v3 v4 := by
  obtain ⟨n1, n2, n3, n4, n5, n6, n7, n8, n9, n10⟩ := hN
  exact gh_Y2 hj n2 n5 n6 (gh_lim hr (show 2 ≤ 200 by omega) (fun it fr pd hi gv vv ex fm iS iA iB iF aE aF => ⟨rfl, hu it fr pd hi gv vv ex fm iS iA iB iF aE aF⟩))
theorem gu_F2 {u : SX} {E O : Int32} {pr pk : Nat} (e0 : ¬ E = 0) (e3 : ¬ E = 3) (hN : gr_N df mt D mp L) (hj : j < df) (hr : ∃ y', gg_r (gq_G (nI df) (nI mt) (nI mp) f_draftTarget f_result f_price f_peak (upd (upd (upd b_kind 216 1) 217 1) 218 4) (upd (upd (upd b_val 216 v3) 217 v4) 218 (nI j)) a_slotUsed a_slotSize a_slotArity a_slotLocals D L a_tokenSpan) (2, 0, 0, 2, 0, 0, 0, g_value, nI 218, 0, upd (upd b_itemSort 0 1) 1 1, upd (upd b_itemA 0 (nI 217)) 1 (nI 216), upd (upd b_itemB 0 0) 1 0, upd (upd b_itemFrame 0 0) 1 0, b_argExpr, b_argFrame) y' ∧ gv_FN y' E O pr pk)
    (hu : ∀ (it fr pd hi : Nat) (gv vv ex fm : Int32) (iS iA iB iF aE aF : Nat → Int32), i_Rel (k + 5) u (nI df, nI mt, nI D, nI mp, nI L, f_draftTarget, O, nI pr, nI pk, nI it, nI fr, nI pd, nI hi, E, O, gv, vv, ex, fm, (upd (upd (upd b_kind 216 1) 217 1) 218 4), (upd (upd (upd b_val 216 v3) 217 v4) 218 (nI j)), a_slotUsed, a_slotSize, a_slotArity, a_slotLocals, iS, iA, iB, iF, aE, aF)) :
    wpY_eval (fun r' v' => r' = E ∧ i_Rel (k + 5) u v') (nI df, nI mt, nI D, nI mp, nI L, f_draftTarget, f_result, f_price, f_peak, g_items, g_frames, g_paid, g_high, g_ending, g_outcome, g_giving, g_value, g_expr, g_frame, b_kind, b_val, a_slotUsed, a_slotSize, a_slotArity, a_slotLocals, b_itemSort, b_itemA, b_itemB, b_itemFrame, b_argExpr, b_argFrame) (nI j) (nI 2) v3 v4 := by
  obtain ⟨n1, n2, n3, n4, n5, n6, n7, n8, n9, n10⟩ := hN
  exact gh_Y2 hj n2 n5 n6 (gh_fin e0 e3 hr (show 2 ≤ 200 by omega) (fun it fr pd hi gv vv ex fm iS iA iB iF aE aF => ⟨rfl, hu it fr pd hi gv vv ex fm iS iA iB iF aE aF⟩))
end V
end GU2
end
section
section GU3
section V
variable {f_draftSlot f_slotTokens f_slotRoots f_itemArgument f_itemLeft f_itemRight f_itemChoice f_nodeFresh f_nodeBusy f_nodeNumber f_nodePartial f_modeRead f_modeDemand f_modeEnter f_modeGive f_placeNodes f_draftTarget f_draftMade f_result f_price f_peak f_outcome f_mode f_nowA f_nowB f_items f_marks f_high f_nodes f_frames : Int32} {a_slotUsed a_slotArity a_slotLocals a_slotSize a_tokenKind a_tokenValue a_tokenSpan a_roots a_itemSort a_itemA a_itemB a_markNode a_markPrice a_markBase a_markHigh a_nodeState a_nodeCode a_nodeExtra a_nodePrice a_nodeHeight a_nodeHeld a_frameArgs a_frameLocals : Nat → Int32} {g_items g_frames g_paid g_high g_ending g_outcome g_giving g_value g_expr g_frame : Int32} {b_kind b_val b_itemSort b_itemA b_itemB b_itemFrame b_argExpr b_argFrame : Nat → Int32} {df mt D mp L j k : Nat} {v1 v2 v3 v4 : Int32} {md nA nB : Int32} {mN mP mB mH nS nC nE nP nG nW fA fL iS iA iB : Nat → Int32}
theorem gu_q0 {post : Int32 → SX → Prop} (hpost : ∀ r u', wpY_eval (fun r' v' => r' = r ∧ i_Rel (k + 5) u' v') (nI df, nI mt, nI D, nI mp, nI L, f_draftTarget, f_result, f_price, f_peak, g_items, g_frames, g_paid, g_high, g_ending, g_outcome, g_giving, g_value, g_expr, g_frame, b_kind, b_val, a_slotUsed, a_slotSize, a_slotArity, a_slotLocals, b_itemSort, b_itemA, b_itemB, b_itemFrame, b_argExpr, b_argFrame) (nI j) (nI 0) v3 v4 → post r u') (hN : gr_N df mt D mp L) (hk : ∀ q, q < 216 → b_kind q = a_tokenKind q ∧ b_val q = a_tokenValue q) (hq : gr_Q df mt f_draftTarget f_draftMade a_slotUsed a_slotArity a_slotLocals a_slotSize a_tokenKind a_tokenValue a_tokenSpan a_roots) (hj : j < df) :
    wX_eval_44 post (nI j) f_draftSlot f_slotTokens f_slotRoots f_itemArgument f_itemLeft f_itemRight f_itemChoice f_nodeFresh f_nodeBusy f_nodeNumber f_nodePartial f_modeRead f_modeDemand f_modeEnter f_modeGive f_placeNodes (nI df) (nI mt) (nI D) (nI mp) (nI L) f_draftTarget f_draftMade 0 (nI 0) (nI 0) 0 md nA nB (nI 0) (nI 0) (nI 0) (nI 8) (nI 0) a_slotUsed a_slotArity a_slotLocals a_slotSize a_tokenKind a_tokenValue a_tokenSpan a_roots iS iA iB mN mP mB mH (gx_rg nS 0 8 (fun _ => 0)) nC nE nP nG nW fA fL := by
  have hk2 := gu_k (b_kind := b_kind) (b_val := b_val) (v3 := v3) (v4 := v4) (j := j) hk
  have R := gu_R (f_draftMade := f_draftMade) (f_result := f_result) (f_price := f_price) (f_peak := f_peak) (v3 := v3) (v4 := v4) (j := j) hN hk hq
  have P := gu_P (f_result := f_result) (f_price := f_price) (f_peak := f_peak) (v3 := v3) (v4 := v4) (j := j) hN hk hq
  have hX := gu_i0 (g_value := g_value) (b_itemSort := b_itemSort) (b_itemA := b_itemA) (b_itemB := b_itemB) (b_itemFrame := b_itemFrame) (b_argExpr := b_argExpr) (b_argFrame := b_argFrame) (mN := mN) (mP := mP) (mB := mB) (mH := mH) (nS := nS) (nC := nC) (nE := nE) (nP := nP) (nG := nG) (nW := nW) (fA := fA) (fL := fL) (iS := iS) (iA := iA) (iB := iB) R hN hj
  have hL : (∃ y', gg_r (gq_G (nI df) (nI mt) (nI mp) f_draftTarget f_result f_price f_peak (upd (upd (upd b_kind 216 1) 217 1) 218 4) (upd (upd (upd b_val 216 v3) 217 v4) 218 (nI j)) a_slotUsed a_slotSize a_slotArity a_slotLocals D L a_tokenSpan) (0, 0, 0, 0, 0, 0, 0, g_value, nI 218, 0, b_itemSort, b_itemA, b_itemB, b_itemFrame, b_argExpr, b_argFrame) y' ∧ gc_LM y') → ∀ s : gk_S, match s with | (pr, pk, md, nA, nB, it, mz, hi, nn, nf, iS, iA, iB, mN, mP, mB, mH, nS, nC, nE, nP, nG, nW, fA, fL) => post 3 (f_draftSlot, f_slotTokens, f_slotRoots, f_itemArgument, f_itemLeft, f_itemRight, f_itemChoice, f_nodeFresh, f_nodeBusy, f_nodeNumber, f_nodePartial, f_modeRead, f_modeDemand, f_modeEnter, f_modeGive, f_placeNodes, nI df, nI mt, nI D, nI mp, nI L, f_draftTarget, f_draftMade, 0, 0, 0, 3, md, nA, nB, nI it, nI mz, nI hi, nI nn, nI nf, a_slotUsed, a_slotArity, a_slotLocals, a_slotSize, a_tokenKind, a_tokenValue, a_tokenSpan, a_roots, iS, iA, iB, mN, mP, mB, mH, nS, nC, nE, nP, nG, nW, fA, fL) := by
    intro hr s
    obtain ⟨pr, pk, md, nA, nB, it, mz, hi, nn, nf, iS, iA, iB, mN, mP, mB, mH, nS, nC, nE, nP, nG, nW, fA, fL⟩ := s
    exact hpost 3 _ (gu_L0 hN hj hr (fun it fr pd hi gv vv ex fm iS iA iB iF aE aF => gr_in hN hk2 hq))
  have hF : ∀ (E O : Int32) (s : gk_S), ¬ E = 0 → ¬ E = 3 → match s with | (pr, pk, md, nA, nB, it, mz, hi, nn, nf, iS, iA, iB, mN, mP, mB, mH, nS, nC, nE, nP, nG, nW, fA, fL) => (∃ y', gg_r (gq_G (nI df) (nI mt) (nI mp) f_draftTarget f_result f_price f_peak (upd (upd (upd b_kind 216 1) 217 1) 218 4) (upd (upd (upd b_val 216 v3) 217 v4) 218 (nI j)) a_slotUsed a_slotSize a_slotArity a_slotLocals D L a_tokenSpan) (0, 0, 0, 0, 0, 0, 0, g_value, nI 218, 0, b_itemSort, b_itemA, b_itemB, b_itemFrame, b_argExpr, b_argFrame) y' ∧ gv_FN y' E O pr pk) → post E (f_draftSlot, f_slotTokens, f_slotRoots, f_itemArgument, f_itemLeft, f_itemRight, f_itemChoice, f_nodeFresh, f_nodeBusy, f_nodeNumber, f_nodePartial, f_modeRead, f_modeDemand, f_modeEnter, f_modeGive, f_placeNodes, nI df, nI mt, nI D, nI mp, nI L, f_draftTarget, f_draftMade, O, nI pr, nI pk, E, md, nA, nB, nI it, nI mz, nI hi, nI nn, nI nf, a_slotUsed, a_slotArity, a_slotLocals, a_slotSize, a_tokenKind, a_tokenValue, a_tokenSpan, a_roots, iS, iA, iB, mN, mP, mB, mH, nS, nC, nE, nP, nG, nW, fA, fL) := by
    intro E O s e0 e3
    obtain ⟨pr, pk, md, nA, nB, it, mz, hi, nn, nf, iS, iA, iB, mN, mP, mB, mH, nS, nC, nE, nP, nG, nW, fA, fL⟩ := s
    intro hr
    exact hpost E _ (gu_F0 e0 e3 hN hj hr (fun it fr pd hi gv vv ex fm iS iA iB iF aE aF => gr_in hN hk2 hq))
  have key := gd_44 (f_draftSlot := f_draftSlot) (f_slotTokens := f_slotTokens) (f_slotRoots := f_slotRoots) (f_itemArgument := f_itemArgument) (f_itemLeft := f_itemLeft) (f_itemRight := f_itemRight) (f_itemChoice := f_itemChoice) (f_nodeFresh := f_nodeFresh) (f_nodeBusy := f_nodeBusy) (f_nodeNumber := f_nodeNumber) (f_nodePartial := f_nodePartial) (f_modeRead := f_modeRead) (f_modeDemand := f_modeDemand) (f_modeEnter := f_modeEnter) (f_modeGive := f_modeGive) (f_placeNodes := f_placeNodes) (f_draftTarget := f_draftTarget) (f_draftMade := f_draftMade) (a_slotUsed := a_slotUsed) (a_slotArity := a_slotArity) (a_slotLocals := a_slotLocals) (a_slotSize := a_slotSize) (a_tokenKind := a_tokenKind) (a_tokenValue := a_tokenValue) (a_tokenSpan := a_tokenSpan) (a_roots := a_roots) (f_defs := nI df) (f_maxTokens := nI mt) (f_maxPrice := nI mp) (md := md) (nA := nA) (nB := nB) (G := (gq_G (nI df) (nI mt) (nI mp) f_draftTarget f_result f_price f_peak (upd (upd (upd b_kind 216 1) 217 1) 218 4) (upd (upd (upd b_val 216 v3) 217 v4) 218 (nI j)) a_slotUsed a_slotSize a_slotArity a_slotLocals D L a_tokenSpan)) (post := post) R P hN.2.2.2.2.2.2.2.2.1 hX hL hF
  exact key
theorem gu_q1 {post : Int32 → SX → Prop} (hpost : ∀ r u', wpY_eval (fun r' v' => r' = r ∧ i_Rel (k + 5) u' v') (nI df, nI mt, nI D, nI mp, nI L, f_draftTarget, f_result, f_price, f_peak, g_items, g_frames, g_paid, g_high, g_ending, g_outcome, g_giving, g_value, g_expr, g_frame, b_kind, b_val, a_slotUsed, a_slotSize, a_slotArity, a_slotLocals, b_itemSort, b_itemA, b_itemB, b_itemFrame, b_argExpr, b_argFrame) (nI j) (nI 1) v3 v4 → post r u') (hN : gr_N df mt D mp L) (hk : ∀ q, q < 216 → b_kind q = a_tokenKind q ∧ b_val q = a_tokenValue q) (hq : gr_Q df mt f_draftTarget f_draftMade a_slotUsed a_slotArity a_slotLocals a_slotSize a_tokenKind a_tokenValue a_tokenSpan a_roots) (hj : j < df) :
    wX_eval_44 post (nI j) f_draftSlot f_slotTokens f_slotRoots f_itemArgument f_itemLeft f_itemRight f_itemChoice f_nodeFresh f_nodeBusy f_nodeNumber f_nodePartial f_modeRead f_modeDemand f_modeEnter f_modeGive f_placeNodes (nI df) (nI mt) (nI D) (nI mp) (nI L) f_draftTarget f_draftMade 0 (nI 0) (nI 1) 0 md nA nB (nI 1) (nI 0) (nI 1) (nI 9) (nI 0) a_slotUsed a_slotArity a_slotLocals a_slotSize a_tokenKind a_tokenValue a_tokenSpan a_roots (upd iS 0 0) (upd iA 0 (nI 8)) (upd iB 0 0) mN mP mB mH (upd (gx_rg nS 0 8 (fun _ => 0)) 8 2) (upd nC 8 v3) (upd nE 8 0) (upd nP 8 1) (upd nG 8 0) nW fA fL := by
  have hk2 := gu_k (b_kind := b_kind) (b_val := b_val) (v3 := v3) (v4 := v4) (j := j) hk
  have R := gu_R (f_draftMade := f_draftMade) (f_result := f_result) (f_price := f_price) (f_peak := f_peak) (v3 := v3) (v4 := v4) (j := j) hN hk hq
  have P := gu_P (f_result := f_result) (f_price := f_price) (f_peak := f_peak) (v3 := v3) (v4 := v4) (j := j) hN hk hq
  have hX := gu_i1 (g_value := g_value) (b_itemSort := b_itemSort) (b_itemA := b_itemA) (b_itemB := b_itemB) (b_itemFrame := b_itemFrame) (b_argExpr := b_argExpr) (b_argFrame := b_argFrame) (mN := mN) (mP := mP) (mB := mB) (mH := mH) (nS := nS) (nC := nC) (nE := nE) (nP := nP) (nG := nG) (nW := nW) (fA := fA) (fL := fL) (iS := iS) (iA := iA) (iB := iB) R hN hj
  have hL : (∃ y', gg_r (gq_G (nI df) (nI mt) (nI mp) f_draftTarget f_result f_price f_peak (upd (upd (upd b_kind 216 1) 217 1) 218 4) (upd (upd (upd b_val 216 v3) 217 v4) 218 (nI j)) a_slotUsed a_slotSize a_slotArity a_slotLocals D L a_tokenSpan) (1, 0, 0, 1, 0, 0, 0, g_value, nI 218, 0, upd b_itemSort 0 1, upd b_itemA 0 (nI 216), upd b_itemB 0 0, upd b_itemFrame 0 0, b_argExpr, b_argFrame) y' ∧ gc_LM y') → ∀ s : gk_S, match s with | (pr, pk, md, nA, nB, it, mz, hi, nn, nf, iS, iA, iB, mN, mP, mB, mH, nS, nC, nE, nP, nG, nW, fA, fL) => post 3 (f_draftSlot, f_slotTokens, f_slotRoots, f_itemArgument, f_itemLeft, f_itemRight, f_itemChoice, f_nodeFresh, f_nodeBusy, f_nodeNumber, f_nodePartial, f_modeRead, f_modeDemand, f_modeEnter, f_modeGive, f_placeNodes, nI df, nI mt, nI D, nI mp, nI L, f_draftTarget, f_draftMade, 0, 0, 0, 3, md, nA, nB, nI it, nI mz, nI hi, nI nn, nI nf, a_slotUsed, a_slotArity, a_slotLocals, a_slotSize, a_tokenKind, a_tokenValue, a_tokenSpan, a_roots, iS, iA, iB, mN, mP, mB, mH, nS, nC, nE, nP, nG, nW, fA, fL) := by
    intro hr s
    obtain ⟨pr, pk, md, nA, nB, it, mz, hi, nn, nf, iS, iA, iB, mN, mP, mB, mH, nS, nC, nE, nP, nG, nW, fA, fL⟩ := s
    exact hpost 3 _ (gu_L1 hN hj hr (fun it fr pd hi gv vv ex fm iS iA iB iF aE aF => gr_in hN hk2 hq))
  have hF : ∀ (E O : Int32) (s : gk_S), ¬ E = 0 → ¬ E = 3 → match s with | (pr, pk, md, nA, nB, it, mz, hi, nn, nf, iS, iA, iB, mN, mP, mB, mH, nS, nC, nE, nP, nG, nW, fA, fL) => (∃ y', gg_r (gq_G (nI df) (nI mt) (nI mp) f_draftTarget f_result f_price f_peak (upd (upd (upd b_kind 216 1) 217 1) 218 4) (upd (upd (upd b_val 216 v3) 217 v4) 218 (nI j)) a_slotUsed a_slotSize a_slotArity a_slotLocals D L a_tokenSpan) (1, 0, 0, 1, 0, 0, 0, g_value, nI 218, 0, upd b_itemSort 0 1, upd b_itemA 0 (nI 216), upd b_itemB 0 0, upd b_itemFrame 0 0, b_argExpr, b_argFrame) y' ∧ gv_FN y' E O pr pk) → post E (f_draftSlot, f_slotTokens, f_slotRoots, f_itemArgument, f_itemLeft, f_itemRight, f_itemChoice, f_nodeFresh, f_nodeBusy, f_nodeNumber, f_nodePartial, f_modeRead, f_modeDemand, f_modeEnter, f_modeGive, f_placeNodes, nI df, nI mt, nI D, nI mp, nI L, f_draftTarget, f_draftMade, O, nI pr, nI pk, E, md, nA, nB, nI it, nI mz, nI hi, nI nn, nI nf, a_slotUsed, a_slotArity, a_slotLocals, a_slotSize, a_tokenKind, a_tokenValue, a_tokenSpan, a_roots, iS, iA, iB, mN, mP, mB, mH, nS, nC, nE, nP, nG, nW, fA, fL) := by
    intro E O s e0 e3
    obtain ⟨pr, pk, md, nA, nB, it, mz, hi, nn, nf, iS, iA, iB, mN, mP, mB, mH, nS, nC, nE, nP, nG, nW, fA, fL⟩ := s
    intro hr
    exact hpost E _ (gu_F1 e0 e3 hN hj hr (fun it fr pd hi gv vv ex fm iS iA iB iF aE aF => gr_in hN hk2 hq))
  have key := gd_44 (f_draftSlot := f_draftSlot) (f_slotTokens := f_slotTokens) (f_slotRoots := f_slotRoots) (f_itemArgument := f_itemArgument) (f_itemLeft := f_itemLeft) (f_itemRight := f_itemRight) (f_itemChoice := f_itemChoice) (f_nodeFresh := f_nodeFresh) (f_nodeBusy := f_nodeBusy) (f_nodeNumber := f_nodeNumber) (f_nodePartial := f_nodePartial) (f_modeRead := f_modeRead) (f_modeDemand := f_modeDemand) (f_modeEnter := f_modeEnter) (f_modeGive := f_modeGive) (f_placeNodes := f_placeNodes) (f_draftTarget := f_draftTarget) (f_draftMade := f_draftMade) (a_slotUsed := a_slotUsed) (a_slotArity := a_slotArity) (a_slotLocals := a_slotLocals) (a_slotSize := a_slotSize) (a_tokenKind := a_tokenKind) (a_tokenValue := a_tokenValue) (a_tokenSpan := a_tokenSpan) (a_roots := a_roots) (f_defs := nI df) (f_maxTokens := nI mt) (f_maxPrice := nI mp) (md := md) (nA := nA) (nB := nB) (G := (gq_G (nI df) (nI mt) (nI mp) f_draftTarget f_result f_price f_peak (upd (upd (upd b_kind 216 1) 217 1) 218 4) (upd (upd (upd b_val 216 v3) 217 v4) 218 (nI j)) a_slotUsed a_slotSize a_slotArity a_slotLocals D L a_tokenSpan)) (post := post) R P hN.2.2.2.2.2.2.2.2.1 hX hL hF
  exact key
theorem gu_q2 {post : Int32 → SX → Prop} (hpost : ∀ r u', wpY_eval (fun r' v' => r' = r ∧ i_Rel (k + 5) u' v') (nI df, nI mt, nI D, nI mp, nI L, f_draftTarget, f_result, f_price, f_peak, g_items, g_frames, g_paid, g_high, g_ending, g_outcome, g_giving, g_value, g_expr, g_frame, b_kind, b_val, a_slotUsed, a_slotSize, a_slotArity, a_slotLocals, b_itemSort, b_itemA, b_itemB, b_itemFrame, b_argExpr, b_argFrame) (nI j) (nI 2) v3 v4 → post r u') (hN : gr_N df mt D mp L) (hk : ∀ q, q < 216 → b_kind q = a_tokenKind q ∧ b_val q = a_tokenValue q) (hq : gr_Q df mt f_draftTarget f_draftMade a_slotUsed a_slotArity a_slotLocals a_slotSize a_tokenKind a_tokenValue a_tokenSpan a_roots) (hj : j < df) :
    wX_eval_44 post (nI j) f_draftSlot f_slotTokens f_slotRoots f_itemArgument f_itemLeft f_itemRight f_itemChoice f_nodeFresh f_nodeBusy f_nodeNumber f_nodePartial f_modeRead f_modeDemand f_modeEnter f_modeGive f_placeNodes (nI df) (nI mt) (nI D) (nI mp) (nI L) f_draftTarget f_draftMade 0 (nI 0) (nI 2) 0 md nA nB (nI 2) (nI 0) (nI 2) (nI 10) (nI 0) a_slotUsed a_slotArity a_slotLocals a_slotSize a_tokenKind a_tokenValue a_tokenSpan a_roots (upd (upd iS 0 0) 1 0) (upd (upd iA 0 (nI 8)) 1 (nI 9)) (upd (upd iB 0 0) 1 0) mN mP mB mH (upd (upd (gx_rg nS 0 8 (fun _ => 0)) 8 2) 9 2) (upd (upd nC 8 v4) 9 v3) (upd (upd nE 8 0) 9 0) (upd (upd nP 8 1) 9 1) (upd (upd nG 8 0) 9 0) nW fA fL := by
  have hk2 := gu_k (b_kind := b_kind) (b_val := b_val) (v3 := v3) (v4 := v4) (j := j) hk
  have R := gu_R (f_draftMade := f_draftMade) (f_result := f_result) (f_price := f_price) (f_peak := f_peak) (v3 := v3) (v4 := v4) (j := j) hN hk hq
  have P := gu_P (f_result := f_result) (f_price := f_price) (f_peak := f_peak) (v3 := v3) (v4 := v4) (j := j) hN hk hq
  have hX := gu_i2 (g_value := g_value) (b_itemSort := b_itemSort) (b_itemA := b_itemA) (b_itemB := b_itemB) (b_itemFrame := b_itemFrame) (b_argExpr := b_argExpr) (b_argFrame := b_argFrame) (mN := mN) (mP := mP) (mB := mB) (mH := mH) (nS := nS) (nC := nC) (nE := nE) (nP := nP) (nG := nG) (nW := nW) (fA := fA) (fL := fL) (iS := iS) (iA := iA) (iB := iB) R hN hj
  have hL : (∃ y', gg_r (gq_G (nI df) (nI mt) (nI mp) f_draftTarget f_result f_price f_peak (upd (upd (upd b_kind 216 1) 217 1) 218 4) (upd (upd (upd b_val 216 v3) 217 v4) 218 (nI j)) a_slotUsed a_slotSize a_slotArity a_slotLocals D L a_tokenSpan) (2, 0, 0, 2, 0, 0, 0, g_value, nI 218, 0, upd (upd b_itemSort 0 1) 1 1, upd (upd b_itemA 0 (nI 217)) 1 (nI 216), upd (upd b_itemB 0 0) 1 0, upd (upd b_itemFrame 0 0) 1 0, b_argExpr, b_argFrame) y' ∧ gc_LM y') → ∀ s : gk_S, match s with | (pr, pk, md, nA, nB, it, mz, hi, nn, nf, iS, iA, iB, mN, mP, mB, mH, nS, nC, nE, nP, nG, nW, fA, fL) => post 3 (f_draftSlot, f_slotTokens, f_slotRoots, f_itemArgument, f_itemLeft, f_itemRight, f_itemChoice, f_nodeFresh, f_nodeBusy, f_nodeNumber, f_nodePartial, f_modeRead, f_modeDemand, f_modeEnter, f_modeGive, f_placeNodes, nI df, nI mt, nI D, nI mp, nI L, f_draftTarget, f_draftMade, 0, 0, 0, 3, md, nA, nB, nI it, nI mz, nI hi, nI nn, nI nf, a_slotUsed, a_slotArity, a_slotLocals, a_slotSize, a_tokenKind, a_tokenValue, a_tokenSpan, a_roots, iS, iA, iB, mN, mP, mB, mH, nS, nC, nE, nP, nG, nW, fA, fL) := by
    intro hr s
    obtain ⟨pr, pk, md, nA, nB, it, mz, hi, nn, nf, iS, iA, iB, mN, mP, mB, mH, nS, nC, nE, nP, nG, nW, fA, fL⟩ := s
    exact hpost 3 _ (gu_L2 hN hj hr (fun it fr pd hi gv vv ex fm iS iA iB iF aE aF => gr_in hN hk2 hq))
  have hF : ∀ (E O : Int32) (s : gk_S), ¬ E = 0 → ¬ E = 3 → match s with | (pr, pk, md, nA, nB, it, mz, hi, nn, nf, iS, iA, iB, mN, mP, mB, mH, nS, nC, nE, nP, nG, nW, fA, fL) => (∃ y', gg_r (gq_G (nI df) (nI mt) (nI mp) f_draftTarget f_result f_price f_peak (upd (upd (upd b_kind 216 1) 217 1) 218 4) (upd (upd (upd b_val 216 v3) 217 v4) 218 (nI j)) a_slotUsed a_slotSize a_slotArity a_slotLocals D L a_tokenSpan) (2, 0, 0, 2, 0, 0, 0, g_value, nI 218, 0, upd (upd b_itemSort 0 1) 1 1, upd (upd b_itemA 0 (nI 217)) 1 (nI 216), upd (upd b_itemB 0 0) 1 0, upd (upd b_itemFrame 0 0) 1 0, b_argExpr, b_argFrame) y' ∧ gv_FN y' E O pr pk) → post E (f_draftSlot, f_slotTokens, f_slotRoots, f_itemArgument, f_itemLeft, f_itemRight, f_itemChoice, f_nodeFresh, f_nodeBusy, f_nodeNumber, f_nodePartial, f_modeRead, f_modeDemand, f_modeEnter, f_modeGive, f_placeNodes, nI df, nI mt, nI D, nI mp, nI L, f_draftTarget, f_draftMade, O, nI pr, nI pk, E, md, nA, nB, nI it, nI mz, nI hi, nI nn, nI nf, a_slotUsed, a_slotArity, a_slotLocals, a_slotSize, a_tokenKind, a_tokenValue, a_tokenSpan, a_roots, iS, iA, iB, mN, mP, mB, mH, nS, nC, nE, nP, nG, nW, fA, fL) := by
    intro E O s e0 e3
    obtain ⟨pr, pk, md, nA, nB, it, mz, hi, nn, nf, iS, iA, iB, mN, mP, mB, mH, nS, nC, nE, nP, nG, nW, fA, fL⟩ := s
    intro hr
    exact hpost E _ (gu_F2 e0 e3 hN hj hr (fun it fr pd hi gv vv ex fm iS iA iB iF aE aF => gr_in hN hk2 hq))
  have key := gd_44 (f_draftSlot := f_draftSlot) (f_slotTokens := f_slotTokens) (f_slotRoots := f_slotRoots) (f_itemArgument := f_itemArgument) (f_itemLeft := f_itemLeft) (f_itemRight := f_itemRight) (f_itemChoice := f_itemChoice) (f_nodeFresh := f_nodeFresh) (f_nodeBusy := f_nodeBusy) (f_nodeNumber := f_nodeNumber) (f_nodePartial := f_nodePartial) (f_modeRead := f_modeRead) (f_modeDemand := f_modeDemand) (f_modeEnter := f_modeEnter) (f_modeGive := f_modeGive) (f_placeNodes := f_placeNodes) (f_draftTarget := f_draftTarget) (f_draftMade := f_draftMade) (a_slotUsed := a_slotUsed) (a_slotArity := a_slotArity) (a_slotLocals := a_slotLocals) (a_slotSize := a_slotSize) (a_tokenKind := a_tokenKind) (a_tokenValue := a_tokenValue) (a_tokenSpan := a_tokenSpan) (a_roots := a_roots) (f_defs := nI df) (f_maxTokens := nI mt) (f_maxPrice := nI mp) (md := md) (nA := nA) (nB := nB) (G := (gq_G (nI df) (nI mt) (nI mp) f_draftTarget f_result f_price f_peak (upd (upd (upd b_kind 216 1) 217 1) 218 4) (upd (upd (upd b_val 216 v3) 217 v4) 218 (nI j)) a_slotUsed a_slotSize a_slotArity a_slotLocals D L a_tokenSpan)) (post := post) R P hN.2.2.2.2.2.2.2.2.1 hX hL hF
  exact key
end V
end GU3
end
section
section GU4
section V
variable {f_draftSlot f_slotTokens f_slotRoots f_itemArgument f_itemLeft f_itemRight f_itemChoice f_nodeFresh f_nodeBusy f_nodeNumber f_nodePartial f_modeRead f_modeDemand f_modeEnter f_modeGive f_placeNodes f_draftTarget f_draftMade f_result f_price f_peak f_outcome f_mode f_nowA f_nowB f_items f_marks f_high f_nodes f_frames : Int32} {a_slotUsed a_slotArity a_slotLocals a_slotSize a_tokenKind a_tokenValue a_tokenSpan a_roots a_itemSort a_itemA a_itemB a_markNode a_markPrice a_markBase a_markHigh a_nodeState a_nodeCode a_nodeExtra a_nodePrice a_nodeHeight a_nodeHeld a_frameArgs a_frameLocals : Nat → Int32} {df mt D mp L : Nat}
theorem gu_res {ps : SX → Prop} (h : ps (f_draftSlot, f_slotTokens, f_slotRoots, f_itemArgument, f_itemLeft, f_itemRight, f_itemChoice, f_nodeFresh, f_nodeBusy, f_nodeNumber, f_nodePartial, f_modeRead, f_modeDemand, f_modeEnter, f_modeGive, f_placeNodes, nI df, nI mt, nI D, nI mp, nI L, f_draftTarget, f_draftMade, 0, nI 0, nI 0, 0, f_mode, f_nowA, f_nowB, nI 0, nI 0, nI 0, nI 8, nI 0, a_slotUsed, a_slotArity, a_slotLocals, a_slotSize, a_tokenKind, a_tokenValue, a_tokenSpan, a_roots, a_itemSort, a_itemA, a_itemB, a_markNode, a_markPrice, a_markBase, a_markHigh, gx_rg a_nodeState 0 8 (fun _ => 0), a_nodeCode, a_nodeExtra, a_nodePrice, a_nodeHeight, a_nodeHeld, a_frameArgs, a_frameLocals)) : wpX_reset ps (f_draftSlot, f_slotTokens, f_slotRoots, f_itemArgument, f_itemLeft, f_itemRight, f_itemChoice, f_nodeFresh, f_nodeBusy, f_nodeNumber, f_nodePartial, f_modeRead, f_modeDemand, f_modeEnter, f_modeGive, f_placeNodes, nI df, nI mt, nI D, nI mp, nI L, f_draftTarget, f_draftMade, f_result, f_price, f_peak, f_outcome, f_mode, f_nowA, f_nowB, f_items, f_marks, f_high, f_nodes, f_frames, a_slotUsed, a_slotArity, a_slotLocals, a_slotSize, a_tokenKind, a_tokenValue, a_tokenSpan, a_roots, a_itemSort, a_itemA, a_itemB, a_markNode, a_markPrice, a_markBase, a_markHigh, a_nodeState, a_nodeCode, a_nodeExtra, a_nodePrice, a_nodeHeight, a_nodeHeld, a_frameArgs, a_frameLocals) := by
  have key : ∀ t i, i + t = 8 → wX_reset_48 ps f_draftSlot f_slotTokens f_slotRoots f_itemArgument f_itemLeft f_itemRight f_itemChoice f_nodeFresh f_nodeBusy f_nodeNumber f_nodePartial f_modeRead f_modeDemand f_modeEnter f_modeGive f_placeNodes (nI df) (nI mt) (nI D) (nI mp) (nI L) f_draftTarget f_draftMade 0 (nI 0) (nI 0) 0 f_mode f_nowA f_nowB (nI 0) (nI 0) (nI 0) (nI 8) (nI 0) (t + 1) (nI i) a_slotUsed a_slotArity a_slotLocals a_slotSize a_tokenKind a_tokenValue a_tokenSpan a_roots a_itemSort a_itemA a_itemB a_markNode a_markPrice a_markBase a_markHigh (gx_rg a_nodeState 0 i (fun _ => 0)) a_nodeCode a_nodeExtra a_nodePrice a_nodeHeight a_nodeHeld a_frameArgs a_frameLocals := by
    intro t
    induction t with
    | zero =>
      intro i e
      obtain rfl : i = 8 := e
      exact br_t (Int32.le_refl _) h
    | succ t ih =>
      intro i e
      have ci : (nI i).toNatClampNeg = 0 + i := by rw [nI_clamp (by omega)]; omega
      refine br_f (nI_ge (b := 8) (by omega) (by omega)) ⟨ga_in (by omega), nm_r (e' := gx_rg a_nodeState 0 (i + 1) (fun _ => 0)) (by rw [ci]; exact gx_rgs a_nodeState 0 i (fun _ => 0)) (nm_r (nI_1 i) (ih (i + 1) (by omega)))⟩
  have k0 := key 8 0 (by omega)
  rw [gx_rg0] at k0
  exact ⟨9, k0⟩
end V
end GU4
end
section
section GU5
theorem i_vc_eval {k : Nat} {u : SX} {v : SY} (I : i_Rel k u v) (hk : k + 5 ≤ 2564) (v1 : Int32) (v2 : Int32) (v3 : Int32) (v4 : Int32) : wpX_eval (fun r u' => wpY_eval (fun r' v' => r' = r ∧ i_Rel (k + 5) u' v') v v1 v2 v3 v4) u v1 v2 v3 v4 := by
  refine gr_el (P := fun u v => wpX_eval (fun r u' => wpY_eval (fun r' v' => r' = r ∧ i_Rel (k + 5) u' v') v v1 v2 v3 v4) u v1 v2 v3 v4) ?_ I
  intro f_draftSlot f_slotTokens f_slotRoots f_itemArgument f_itemLeft f_itemRight f_itemChoice f_nodeFresh f_nodeBusy f_nodeNumber f_nodePartial f_modeRead f_modeDemand f_modeEnter f_modeGive f_placeNodes f_draftTarget f_draftMade f_result f_price f_peak f_outcome f_mode f_nowA f_nowB f_items f_marks f_high f_nodes f_frames a_slotUsed a_slotArity a_slotLocals a_slotSize a_tokenKind a_tokenValue a_tokenSpan a_roots a_itemSort a_itemA a_itemB a_markNode a_markPrice a_markBase a_markHigh a_nodeState a_nodeCode a_nodeExtra a_nodePrice a_nodeHeight a_nodeHeld a_frameArgs a_frameLocals g_items g_frames g_paid g_high g_ending g_outcome g_giving g_value g_expr g_frame b_kind b_val b_itemSort b_itemA b_itemB b_itemFrame b_argExpr b_argFrame df mt D mp L hN hk hq
  show wpX_eval (fun r u' => wpY_eval (fun r' v' => r' = r ∧ i_Rel (k + 5) u' v') (nI df, nI mt, nI D, nI mp, nI L, f_draftTarget, f_result, f_price, f_peak, g_items, g_frames, g_paid, g_high, g_ending, g_outcome, g_giving, g_value, g_expr, g_frame, b_kind, b_val, a_slotUsed, a_slotSize, a_slotArity, a_slotLocals, b_itemSort, b_itemA, b_itemB, b_itemFrame, b_argExpr, b_argFrame) v1 v2 v3 v4) (f_draftSlot, f_slotTokens, f_slotRoots, f_itemArgument, f_itemLeft, f_itemRight, f_itemChoice, f_nodeFresh, f_nodeBusy, f_nodeNumber, f_nodePartial, f_modeRead, f_modeDemand, f_modeEnter, f_modeGive, f_placeNodes, nI df, nI mt, nI D, nI mp, nI L, f_draftTarget, f_draftMade, f_result, f_price, f_peak, f_outcome, f_mode, f_nowA, f_nowB, f_items, f_marks, f_high, f_nodes, f_frames, a_slotUsed, a_slotArity, a_slotLocals, a_slotSize, a_tokenKind, a_tokenValue, a_tokenSpan, a_roots, a_itemSort, a_itemA, a_itemB, a_markNode, a_markPrice, a_markBase, a_markHigh, a_nodeState, a_nodeCode, a_nodeExtra, a_nodePrice, a_nodeHeight, a_nodeHeld, a_frameArgs, a_frameLocals) v1 v2 v3 v4
  unfold wpX_eval
  have hdf := hN.2.1
  rcases gr_ix v1 hdf with hx | ⟨j, hj, rfl⟩
  · refine gn_pl0 hx (br_t rfl ?_)
    exact gr_z0 hx ⟨rfl, gr_in hN hk hq⟩
  · refine gn_pl1 hj hdf (br_f (by decide) ?_)
    by_cases a1 : v2 < 0
    · refine br_t a1 ?_
      exact gr_z1 hj hdf (br_t a1 ⟨rfl, gr_in hN hk hq⟩)
    by_cases a2 : v2 ≤ 2
    · obtain ⟨c, c1, rfl⟩ := nI_of2 (M := 2) (n := 2) (by decide) a1 a2
      refine br_f a1 (br_t a2 ?_)
      have n5 := hN.2.2.2.2.1
      have n6 := hN.2.2.2.2.2.1
      have hc : c = 0 ∨ c = 1 ∨ c = 2 := by omega
      rcases hc with rfl | rfl | rfl
      · refine gu_res ?_
        refine br_f (by decide) ?_
        unfold wX_eval_34
        refine br_t (by decide) ?_
        exact gu_q0 (k := k) (fun r u' h => h) hN hk hq hj
      · refine gu_res ?_
        refine br_f (by decide) ?_
        unfold wX_eval_34
        refine br_f (by decide) ?_
        refine gh_pi1 n5 n6 ?_
        exact gu_q1 (k := k) (fun r u' h => h) hN hk hq hj
      · refine gu_res ?_
        refine br_t (by decide) ?_
        refine gh_pi1 n5 n6 ?_
        refine br_f (by decide) ?_
        refine gh_pi2 n5 n6 ?_
        exact gu_q2 (k := k) (fun r u' h => h) hN hk hq hj
    · refine br_f a1 (br_f a2 ?_)
      exact gr_z1 hj hdf (br_f a1 (br_f a2 ⟨rfl, gr_in hN hk hq⟩))
end GU5
end
