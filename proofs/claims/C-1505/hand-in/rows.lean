section
/-! rows of kit/rows (pk_) and small rows -/
theorem pk_us {f : Nat → Int32} {k : Nat} {x : Int32} : upd f k x k = x := if_pos rfl
theorem pk_un {f : Nat → Int32} {k j : Nat} {x : Int32} (h : j ≠ k) : upd f k x j = f j := if_neg h
theorem pk_sub {a b : Nat} (h : b ≤ a) : nI a - nI b = nI (a - b) := by
  obtain ⟨c, rfl⟩ : ∃ c, a = c + b := ⟨a - b, by omega⟩
  rw [← nI_add, Int32.add_sub_cancel, Nat.add_sub_cancel]
theorem pk_m1 (n : Nat) : nI (n + 1) + (-1) = nI n := by
  rw [← nI_1, Int32.add_assoc, show (1 : Int32) + (-1) = 0 from rfl, Int32.add_zero]
theorem pk_mul (a b : Nat) : nI a * nI b = nI (a * b) := (Int32.ofNat_mul a b).symm
theorem pk_div {a d : Nat} (ha : a < 2 ^ 31) (h0 : 0 < d) (hd : d < 2 ^ 31) : nI a / nI d = nI (a / d) := by
  apply Int32.toInt_inj.mp
  rw [lg_idiv_nonneg (by rw [nI_toInt ha]; omega) (by rw [nI_toInt hd]; omega), nI_toInt ha, nI_toInt hd, nI_toInt (Nat.lt_of_le_of_lt (Nat.div_le_self a d) ha)]
  first | rfl | exact (Int.natCast_ediv _ _).symm
theorem pk_rem {a d : Nat} (ha : a < 2 ^ 31) (h0 : 0 < d) (hd : d < 2 ^ 31) : nI a - nI a / nI d * nI d = nI (a % d) := by
  rw [pk_div ha h0 hd, pk_mul, pk_sub (Nat.div_mul_le_self a d)]
  exact congrArg nI (by have := Nat.div_add_mod' a d; omega)
theorem pk_ix (x : Int32) {n : Nat} (hn : n < 2 ^ 31) : x < 0 ∨ nI n ≤ x ∨ ∃ j : Nat, j < n ∧ x = nI j := by
  by_cases h : x < 0
  · exact Or.inl h
  · obtain ⟨j, hj, rfl⟩ := nI_of h
    by_cases h2 : j < n
    · exact Or.inr (Or.inr ⟨j, h2, rfl⟩)
    · exact Or.inr (Or.inl (nI_le (by omega) hj))
theorem pk_le {x y : Int32} {A B : Prop} (a b : Nat) (f : a ≤ b → A) (g : b < a → B) (hx : x = nI a := by rfl) (hy : y = nI b := by rfl) (ha : a < 2 ^ 31 := by omega) (hb : b < 2 ^ 31 := by omega) : (x ≤ y → A) ∧ (¬ x ≤ y → B) := by
  subst hx hy
  rw [nI_leI ha hb]
  exact ⟨f, fun z => g (by omega)⟩
theorem pk_lt {x y : Int32} {A B : Prop} (a b : Nat) (f : a < b → A) (g : b ≤ a → B) (hx : x = nI a := by rfl) (hy : y = nI b := by rfl) (ha : a < 2 ^ 31 := by omega) (hb : b < 2 ^ 31 := by omega) : (x < y → A) ∧ (¬ x < y → B) := by
  subst hx hy
  rw [nI_ltI ha hb]
  exact ⟨f, fun z => g (by omega)⟩
theorem pk_eq {x y : Int32} {A B : Prop} (a b : Nat) (f : a = b → A) (g : a ≠ b → B) (hx : x = nI a := by rfl) (hy : y = nI b := by rfl) (ha : a < 2 ^ 31 := by omega) (hb : b < 2 ^ 31 := by omega) : (x = y → A) ∧ (¬ x = y → B) := by
  subst hx hy
  rw [nI_eq ha hb]
  exact ⟨f, g⟩
theorem pk_in {x : Int32} (n N : Nat) (h : n < N) (hx : x = nI n := by rfl) (hN : N < 2 ^ 31 := by omega) : vp_in x N := by
  subst hx
  exact vp_in_nI h hN
theorem pk_cl {x : Int32} (n : Nat) (hx : x = nI n := by rfl) (h : n < 2 ^ 31 := by omega) : x.toNatClampNeg = n := by
  subst hx
  exact nI_clamp h
theorem pk_nb (z : Int32) : narrow .byte (.int z.toInt8.toInt32) = .int z.toInt8.toInt32 := congrArg Value.int (by simp)
theorem pk_ns (z : Int32) : narrow .short (.int z.toInt16.toInt32) = .int z.toInt16.toInt32 := congrArg Value.int (by simp)
theorem pk_vb (z : Int32) : vp_nar .byte z.toInt8.toInt32 = z.toInt8.toInt32 := by rw [vp_nar_byte]; simp
theorem pk_vs (z : Int32) : vp_nar .short z.toInt16.toInt32 = z.toInt16.toInt32 := by rw [vp_nar_short]; simp

/-! own small rows: reads, writes, narrowing -/
theorem cd_rd {a : Nat → Int32} {x v : Int32} {i : Nat} (hx : x = nI i) (hi : i < 2 ^ 31) (h : a i = v) : a x.toNatClampNeg = v := by
  subst hx; rw [nI_clamp hi]; exact h
theorem cd_up {a : Nat → Int32} {x v v' : Int32} {i : Nat} (hx : x = nI i) (hi : i < 2 ^ 31) (hv : v = v') : upd a x.toNatClampNeg v = upd a i v' := by
  subst hx; rw [nI_clamp hi, hv]
theorem cd_ui (a : Nat → Int32) (k i : Nat) (v : Int32) : upd a k v i = if i = k then v else a i := rfl
theorem cd_b8 {n : Nat} (h : n < 128) : (nI n).toInt8.toInt32 = nI n := lg_i2b_small (by rw [nI_toInt (by omega)]; omega) (by rw [nI_toInt (by omega)]; omega)
theorem cd_s16 {n : Nat} (h : n < 32768) : (nI n).toInt16.toInt32 = nI n := lg_i2s_small (by rw [nI_toInt (by omega)]; omega) (by rw [nI_toInt (by omega)]; omega)
theorem cd_nb {n : Nat} (h : n < 128) : vp_nar .byte (nI n).toInt8.toInt32 = nI n := by rw [pk_vb, cd_b8 h]
theorem cd_nb' {n : Nat} (h : n < 128) : vp_nar .byte (nI n) = nI n := by rw [vp_nar_byte, cd_b8 h]
theorem cd_ns {n : Nat} (h : n < 32768) : vp_nar .short (nI n).toInt16.toInt32 = nI n := by rw [pk_vs, cd_s16 h]
theorem cd_sm1 : vp_nar .short ((-1 : Int32).toInt16.toInt32) = -1 := by rw [pk_vs]; decide
theorem cd_sm2 : vp_nar .short ((-2 : Int32).toInt16.toInt32) = -2 := by rw [pk_vs]; decide
theorem cd_z0 : vp_nar .boolean 0 = 0 := by decide
theorem cd_z1 : vp_nar .boolean 1 = 1 := by decide
theorem cd_m1 {n : Nat} (h : 0 < n) : nI n + (-1) = nI (n - 1) := by
  obtain ⟨m, rfl⟩ : ∃ m, n = m + 1 := ⟨n - 1, by omega⟩
  exact pk_m1 m
theorem cd_s1 {n : Nat} (h : 0 < n) : nI n - 1 = nI (n - 1) := by
  obtain ⟨m, rfl⟩ : ∃ m, n = m + 1 := ⟨n - 1, by omega⟩
  exact nI_pred m
theorem cd_im {a b : Nat} (h : nI a = nI b) (ha : a < 2 ^ 31) (hb : b < 2 ^ 31) : a = b := (nI_eq ha hb).mp h
theorem cd_nn {n : Nat} (h : n < 2 ^ 31) : nI n ≠ -1 := by
  intro e
  have := nI_pos (n := n) h
  rw [e] at this
  exact this (by decide)
theorem cd_nn2 {n : Nat} (h : n < 2 ^ 31) : nI n ≠ -2 := by
  intro e
  have := nI_pos (n := n) h
  rw [e] at this
  exact this (by decide)
/-- outside is 12 here and -1 there -/
def cd_cv (t : Nat) : Int32 := if t = 12 then -1 else nI t
theorem cd_cv12 : cd_cv 12 = -1 := rfl
theorem cd_cvn {t : Nat} (h : t ≠ 12) : cd_cv t = nI t := if_neg h
theorem cd_cv1 {t : Nat} (h : t ≤ 12) : cd_cv t + 1 = nI ((t + 1) % 13) := by
  by_cases e : t = 12
  · subst e; decide
  · rw [cd_cvn e, nI_1]; exact congrArg nI (by omega)
theorem cd_e01 {x : Int32} {n : Nat} (h : x = nI n) (hn : n ≤ 1) : x = 0 ∨ x = 1 := by
  have : n = 0 ∨ n = 1 := by omega
  rcases this with rfl | rfl
  · exact Or.inl h
  · exact Or.inr h
end
section
/-! sums of naturals and of ints over 0 .. n-1 -/
def cs_n : Nat → (Nat → Nat) → Nat
  | 0, _ => 0
  | n + 1, f => cs_n n f + f n
def cs_i : Nat → (Nat → Int32) → Int32
  | 0, _ => 0
  | n + 1, f => cs_i n f + f n
/-- a function of naturals with one place changed -/
def cs_u (f : Nat → Nat) (k v : Nat) : Nat → Nat := fun i => if i = k then v else f i
theorem cs_us {f : Nat → Nat} {k v : Nat} : cs_u f k v k = v := if_pos rfl
theorem cs_un {f : Nat → Nat} {k v i : Nat} (h : i ≠ k) : cs_u f k v i = f i := if_neg h
theorem cs_nc {n : Nat} {f g : Nat → Nat} (h : ∀ i, i < n → f i = g i) : cs_n n f = cs_n n g := by
  induction n with
  | zero => rfl
  | succ n ih => simp only [cs_n]; rw [ih (fun i hi => h i (by omega)), h n (by omega)]
theorem cs_ic {n : Nat} {f g : Nat → Int32} (h : ∀ i, i < n → f i = g i) : cs_i n f = cs_i n g := by
  induction n with
  | zero => rfl
  | succ n ih => simp only [cs_i]; rw [ih (fun i hi => h i (by omega)), h n (by omega)]
/-- one place k changed: the sums differ as f k and g k do -/
theorem cs_np {n k : Nat} {f g : Nat → Nat} (hk : k < n) (h : ∀ i, i < n → i ≠ k → f i = g i) : cs_n n f + g k = cs_n n g + f k := by
  induction n with
  | zero => omega
  | succ n ih =>
    simp only [cs_n]
    by_cases e : k = n
    · subst e
      rw [cs_nc (n := k) (f := f) (g := g) (fun i hi => h i (by omega) (by omega))]; omega
    · have := ih (by omega) (fun i hi hn => h i (by omega) hn)
      have := h n (by omega) (by omega)
      omega
theorem cs_nle {n : Nat} {f : Nat → Nat} (h : ∀ i, i < n → f i ≤ 1) : cs_n n f ≤ n := by
  induction n with
  | zero => exact Nat.le_refl _
  | succ n ih =>
    have := ih (fun i hi => h i (by omega))
    have := h n (by omega)
    simp only [cs_n]; omega
theorem cs_nlt {n k : Nat} {f : Nat → Nat} (h : ∀ i, i < n → f i ≤ 1) (hk : k < n) (h0 : f k = 0) : cs_n n f < n := by
  have h1 := cs_np (n := n) (k := k) (f := f) (g := cs_u f k 1) hk (fun i _ hi => (cs_un hi).symm)
  have h2 : cs_n n (cs_u f k 1) ≤ n := cs_nle (fun i hi => by
    by_cases e : i = k
    · subst e; rw [cs_us]; omega
    · rw [cs_un e]; exact h i hi)
  rw [cs_us] at h1
  omega
theorem cs_n0 {n : Nat} {f : Nat → Nat} (h : cs_n n f = 0) : ∀ i, i < n → f i = 0 := by
  induction n with
  | zero => intro i hi; omega
  | succ n ih =>
    simp only [cs_n] at h
    intro i hi
    by_cases e : i = n
    · subst e; omega
    · exact ih (by omega) i (by omega)
theorem cs_nz {n : Nat} {f : Nat → Nat} (h : ∀ i, i < n → f i = 0) : cs_n n f = 0 := by
  induction n with
  | zero => rfl
  | succ n ih => simp only [cs_n]; rw [ih (fun i hi => h i (by omega)), h n (by omega)]
theorem cs_iz {n : Nat} {f : Nat → Int32} (h : ∀ i, i < n → f i = 0) : cs_i n f = 0 := by
  induction n with
  | zero => rfl
  | succ n ih => simp only [cs_i]; rw [ih (fun i hi => h i (by omega)), h n (by omega)]; rfl
theorem cs_ia {n : Nat} {f g h : Nat → Int32} (e : ∀ i, i < n → f i = g i + h i) : cs_i n f = cs_i n g + cs_i n h := by
  induction n with
  | zero => rfl
  | succ n ih =>
    simp only [cs_i]
    rw [ih (fun i hi => e i (by omega)), e n (by omega)]
    ac_rfl
/-- one place k changed by x -/
theorem cs_ip {n k : Nat} {f g : Nat → Int32} {x : Int32} (hk : k < n) (h : ∀ i, i < n → i ≠ k → f i = g i) (hx : f k = g k + x) : cs_i n f = cs_i n g + x := by
  induction n with
  | zero => omega
  | succ n ih =>
    simp only [cs_i]
    by_cases e : k = n
    · subst e
      rw [cs_ic (n := k) (f := f) (g := g) (fun i hi => h i (by omega) (by omega)), hx]; ac_rfl
    · rw [ih (by omega) (fun i hi hn => h i (by omega) hn), h n (by omega) (by omega)]; ac_rfl
theorem cs_is {n m : Nat} {f : Nat → Int32} : cs_i (n + m) f = cs_i n f + cs_i m (fun i => f (n + i)) := by
  induction m with
  | zero => simp only [cs_i, Nat.add_zero]; exact (Int32.add_zero _).symm
  | succ m ih => show cs_i (n + m) f + f (n + m) = _; rw [ih]; simp only [cs_i]; ac_rfl
end
section
/-! the graph of a program: nb blocks, kinds ki, first edges fs, ends F and T (12 outside) -/
def cg_ex (k : Nat) : Nat := if k < 2 then 1 else if k < 5 then 2 else 3
theorem cg_ex1 (k : Nat) : 1 ≤ cg_ex k ∧ cg_ex k ≤ 3 := by
  unfold cg_ex; split
  · omega
  · split <;> omega
def cg_GR (nb : Nat) (ki fs F T : Nat → Nat) : Prop :=
  1 ≤ nb ∧ nb ≤ 12 ∧ fs 0 = 0 ∧ (∀ b, b < nb → ki b ≤ 5 ∧ fs (b + 1) = fs b + cg_ex (ki b)) ∧
  (∀ b j, b < nb → j < cg_ex (ki b) → F (fs b + j) = b ∧ (T (fs b + j) < nb ∨ T (fs b + j) = 12)) ∧ F (fs nb) = 12 ∧ T (fs nb) = 0
theorem cg_fs3 {nb : Nat} {ki fs F T : Nat → Nat} (G : cg_GR nb ki fs F T) : ∀ b, b ≤ nb → fs b ≤ 3 * b := by
  obtain ⟨_, _, h0, h1, _⟩ := G
  intro b
  induction b with
  | zero => intro _; omega
  | succ b ih =>
    intro hb
    have := ih (by omega)
    have := (h1 b (by omega)).2
    have := cg_ex1 (ki b)
    omega
theorem cg_mono {nb : Nat} {ki fs F T : Nat → Nat} (G : cg_GR nb ki fs F T) {a : Nat} : ∀ b, a ≤ b → b ≤ nb → fs a ≤ fs b := by
  obtain ⟨_, _, h0, h1, _⟩ := G
  intro b
  induction b with
  | zero => intro h _; have : a = 0 := by omega
            subst this; exact Nat.le_refl _
  | succ b ih =>
    intro h hb
    by_cases e : a = b + 1
    · subst e; exact Nat.le_refl _
    · have := ih (by omega) (by omega)
      have := (h1 b (by omega)).2
      omega
theorem cg_split {nb : Nat} {ki fs F T : Nat → Nat} (G : cg_GR nb ki fs F T) : ∀ n, n ≤ nb → ∀ e, e < fs n → ∃ b j, b < n ∧ j < cg_ex (ki b) ∧ e = fs b + j := by
  obtain ⟨_, _, h0, h1, _⟩ := G
  intro n
  induction n with
  | zero => intro _ e he; omega
  | succ n ih =>
    intro hn e he
    by_cases h : e < fs n
    · obtain ⟨b, j, hb, hj, r⟩ := ih (by omega) e h
      exact ⟨b, j, by omega, hj, r⟩
    · have := (h1 n (by omega)).2
      exact ⟨n, e - fs n, by omega, by omega, by omega⟩
/-- the number of an edge of a block -/
theorem cg_lt {nb : Nat} {ki fs F T : Nat → Nat} (G : cg_GR nb ki fs F T) {b j : Nat} (hb : b < nb) (hj : j < cg_ex (ki b)) : fs b + j < fs nb := by
  have h1 := cg_mono G (a := b + 1) nb (by omega) (Nat.le_refl _)
  have h2 := (G.2.2.2.1 b hb).2
  omega
theorem cg_ne {nb : Nat} {ki fs F T : Nat → Nat} (G : cg_GR nb ki fs F T) : fs nb < 37 := by
  have h1 := cg_fs3 G nb (Nat.le_refl _)
  have h2 := G.2.1
  omega
theorem cg_uq {nb : Nat} {ki fs F T : Nat → Nat} (G : cg_GR nb ki fs F T) {b j b' j' : Nat} (hb : b < nb) (hj : j < cg_ex (ki b)) (hb' : b' < nb) (hj' : j' < cg_ex (ki b')) (h : fs b + j = fs b' + j') : b = b' ∧ j = j' := by
  have h1 := (G.2.2.2.2.1 b j hb hj).1
  have h2 := (G.2.2.2.2.1 b' j' hb' hj').1
  rw [h] at h1
  have : b = b' := h1.symm.trans h2
  subst this
  exact ⟨rfl, by omega⟩
theorem cg_FT {nb : Nat} {ki fs F T : Nat → Nat} (G : cg_GR nb ki fs F T) {e : Nat} (he : e < fs nb + 1) : (F e < nb ∨ F e = 12) ∧ (T e < nb ∨ T e = 12) := by
  by_cases h : e < fs nb
  · obtain ⟨b, j, hb, hj, rfl⟩ := cg_split G nb (Nat.le_refl _) e h
    obtain ⟨h1, h2⟩ := G.2.2.2.2.1 b j hb hj
    exact ⟨Or.inl (by omega), h2⟩
  · have : e = fs nb := by omega
    subst this
    obtain ⟨h1, _, _, _, _, h2, h3⟩ := G
    exact ⟨Or.inr h2, Or.inl (by omega)⟩
theorem cg_FT12 {nb : Nat} {ki fs F T : Nat → Nat} (G : cg_GR nb ki fs F T) {e : Nat} (he : e < fs nb + 1) : F e ≤ 12 ∧ T e ≤ 12 := by
  have h := cg_FT G he
  have := G.2.1
  omega
/-- edges of b are those from b -/
theorem cg_Fb {nb : Nat} {ki fs F T : Nat → Nat} (G : cg_GR nb ki fs F T) {e b : Nat} (he : e < fs nb + 1) (hb : b < nb) (h : F e = b) : fs b ≤ e ∧ e < fs (b + 1) := by
  have h12 := G.2.1
  by_cases h' : e < fs nb
  · obtain ⟨c, j, hc, hj, rfl⟩ := cg_split G nb (Nat.le_refl _) e h'
    have h1 := (G.2.2.2.2.1 c j hc hj).1
    have : c = b := h1.symm.trans h
    subst this
    have h2 := (G.2.2.2.1 c hc).2
    omega
  · have : e = fs nb := by omega
    subst this
    have := G.2.2.2.2.2.1
    omega

/-! the walk through the blocks: d blocks on the stack stk, marks m, exits tried tr, back flags bk, ranks rk of the c blocks that are left -/
def cg_TE (nb d : Nat) (T stk m bk rk : Nat → Nat) (b e : Nat) : Prop :=
  (T e = 12 ∧ bk e = 0) ∨ (T e < nb ∧ 1 ≤ m (T e) ∧ (bk e = 1 ∨ (bk e = 0 ∧ ((m (T e) = 2 ∧ (m b = 2 → rk (T e) < rk b)) ∨ ∃ i i', i < i' ∧ i' < d ∧ stk i = b ∧ stk i' = T e))))
def cg_DI (nb : Nat) (ki fs T : Nat → Nat) (d : Nat) (stk m tr bk rk : Nat → Nat) (c : Nat) : Prop :=
  (∀ b, b < nb → m b ≤ 2 ∧ tr b ≤ cg_ex (ki b) ∧ (m b = 0 → tr b = 0) ∧ (m b = 2 → tr b = cg_ex (ki b) ∧ rk b < c)) ∧
  (∀ i, i < d → stk i < nb ∧ m (stk i) = 1) ∧
  (∀ i j, i < j → j < d → stk i ≠ stk j) ∧
  (∀ b, b < nb → m b = 1 → ∃ i, i < d ∧ stk i = b) ∧
  (∀ b j, b < nb → j < tr b → cg_TE nb d T stk m bk rk b (fs b + j)) ∧
  ((∀ b j, b < nb → tr b ≤ j → j < cg_ex (ki b) → bk (fs b + j) = 0) ∧ bk (fs nb) = 0) ∧
  d = cs_n nb (fun b => if m b = 1 then 1 else 0) ∧
  c = cs_n nb (fun b => if m b = 2 then 1 else 0) ∧ 1 ≤ m 0
def cg_mu (nb : Nat) (ki m tr : Nat → Nat) : Nat := cs_n nb (fun b => (cg_ex (ki b) - tr b) + (if m b = 2 then 0 else 1))
/-- one exit of a block on the stack is tried -/
theorem cg_adv {nb : Nat} {ki fs F T : Nat → Nat} (G : cg_GR nb ki fs F T) {d : Nat} {stk m tr bk rk : Nat → Nat} {c : Nat} (I : cg_DI nb ki fs T d stk m tr bk rk c)
    {b : Nat} (hb : b < nb) (hm : m b = 1) (hj : tr b < cg_ex (ki b)) (v : Nat) (hE : cg_TE nb d T stk m (cs_u bk (fs b + tr b) v) rk b (fs b + tr b)) :
    cg_DI nb ki fs T d stk m (cs_u tr b (tr b + 1)) (cs_u bk (fs b + tr b) v) rk c ∧ cg_mu nb ki m (cs_u tr b (tr b + 1)) + 1 = cg_mu nb ki m tr := by
  obtain ⟨h1, h2, h3, h4, h5, ⟨h6, h6'⟩, h7, h8, h9⟩ := I
  refine ⟨⟨?_, h2, h3, h4, ?_, ⟨?_, ?_⟩, h7, h8, h9⟩, ?_⟩
  · intro x hx
    by_cases e : x = b
    · subst e; rw [cs_us]; exact ⟨by omega, by omega, by omega, by omega⟩
    · rw [cs_un e]; exact h1 x hx
  · intro x j hx hjx
    by_cases e : x = b ∧ j = tr b
    · obtain ⟨rfl, rfl⟩ := e; exact hE
    · have hj' : j < tr x := by
        by_cases ex : x = b
        · subst ex; rw [cs_us] at hjx; omega
        · rw [cs_un ex] at hjx; exact hjx
      have hne : fs x + j ≠ fs b + tr b := by
        intro he
        have h1x := (h1 x hx).2.1
        obtain ⟨a1, a2⟩ := cg_uq G hx (by omega) hb hj he
        exact e ⟨a1, a2⟩
      have := h5 x j hx hj'
      unfold cg_TE at this ⊢
      rw [cs_un hne]; exact this
  · intro x j hx hjx hjx2
    have hlt : ¬ (x = b ∧ j = tr b) := by
      intro e
      obtain ⟨rfl, rfl⟩ := e
      rw [cs_us] at hjx; omega
    have hne : fs x + j ≠ fs b + tr b := by
      intro he
      exact hlt (cg_uq G hx hjx2 hb hj he)
    rw [cs_un hne]
    refine h6 x j hx ?_ hjx2
    by_cases ex : x = b
    · subst ex; rw [cs_us] at hjx; omega
    · rw [cs_un ex] at hjx; exact hjx
  · have := cg_lt G hb hj
    rw [cs_un (by omega)]; exact h6'
  · unfold cg_mu
    have := cs_np (n := nb) (k := b) (f := fun x => (cg_ex (ki x) - cs_u tr b (tr b + 1) x) + (if m x = 2 then 0 else 1)) (g := fun x => (cg_ex (ki x) - tr x) + (if m x = 2 then 0 else 1)) hb (fun i _ hi => by simp only [cs_un hi])
    simp only [cs_us, hm] at this
    simp only [show ¬ (1 = 2) by omega, if_false] at this
    omega
/-- a block that was not met goes onto the stack -/
theorem cg_push {nb : Nat} {ki fs F T : Nat → Nat} (G : cg_GR nb ki fs F T) {d : Nat} {stk m tr bk rk : Nat → Nat} {c : Nat} (I : cg_DI nb ki fs T d stk m tr bk rk c)
    {t : Nat} (ht : t < nb) (hm : m t = 0) :
    cg_DI nb ki fs T (d + 1) (cs_u stk d t) (cs_u m t 1) tr bk rk c ∧ cg_mu nb ki (cs_u m t 1) tr = cg_mu nb ki m tr ∧ d < nb := by
  obtain ⟨h1, h2, h3, h4, h5, h6, h7, h8, h9⟩ := I
  refine ⟨⟨?_, ?_, ?_, ?_, ?_, h6, ?_, ?_, ?_⟩, ?_, ?_⟩
  · intro x hx
    by_cases e : x = t
    · subst e; rw [cs_us]; have := h1 x hx; exact ⟨by omega, this.2.1, by omega, by omega⟩
    · rw [cs_un e]; exact h1 x hx
  · intro i hi
    by_cases e : i = d
    · subst e; rw [cs_us, cs_us]; exact ⟨ht, rfl⟩
    · obtain ⟨a1, a2⟩ := h2 i (by omega)
      rw [cs_un e]
      refine ⟨a1, ?_⟩
      rw [cs_un (by intro e2; rw [e2] at a2; omega)]; exact a2
  · intro i j hij hj
    have hi := h2 i (by omega)
    rw [cs_un (show i ≠ d by omega)]
    by_cases e : j = d
    · subst e; rw [cs_us]; intro e2; rw [e2] at hi; omega
    · rw [cs_un e]; exact h3 i j hij (by omega)
  · intro x hx hmx
    by_cases e : x = t
    · subst e; exact ⟨d, by omega, cs_us⟩
    · rw [cs_un e] at hmx
      obtain ⟨i, hi, r⟩ := h4 x hx hmx
      exact ⟨i, by omega, by rw [cs_un (by omega)]; exact r⟩
  · intro x j hx hj
    have hxt : x ≠ t := by intro e; subst e; have := (h1 x hx).2.2.1 hm; omega
    rcases h5 x j hx hj with h | ⟨a1, a2, a3⟩
    · exact Or.inl h
    · have hTt : T (fs x + j) ≠ t := by intro e; rw [e] at a2; omega
      refine Or.inr ⟨a1, by rw [cs_un hTt]; exact a2, ?_⟩
      rcases a3 with h | ⟨b1, b2⟩
      · exact Or.inl h
      · refine Or.inr ⟨b1, ?_⟩
        rcases b2 with ⟨c1, c2⟩ | ⟨i, i', q1, q2, q3, q4⟩
        · refine Or.inl ⟨by rw [cs_un hTt]; exact c1, ?_⟩
          rw [cs_un hxt]; exact c2
        · exact Or.inr ⟨i, i', q1, by omega, by rw [cs_un (by omega)]; exact q3, by rw [cs_un (by omega)]; exact q4⟩
  · have := cs_np (n := nb) (k := t) (f := fun x => if cs_u m t 1 x = 1 then 1 else 0) (g := fun x => if m x = 1 then 1 else 0) ht (fun i _ hi => by simp only [cs_un hi])
    simp only [cs_us, hm] at this
    simp at this
    omega
  · rw [h8]
    exact cs_nc (fun i _ => by
      by_cases e : i = t
      · subst e; simp [cs_us, hm]
      · simp only [cs_un e])
  · by_cases e : 0 = t
    · rw [← e, cs_us]; exact Nat.le_refl _
    · rw [cs_un e]; exact h9
  · unfold cg_mu
    exact cs_nc (fun i _ => by
      by_cases e : i = t
      · subst e; simp [cs_us, hm]
      · simp only [cs_un e])
  · rw [h7]
    exact cs_nlt (k := t) (fun i _ => by split <;> omega) ht (by simp [hm])
/-- the block on top of the stack is left -/
theorem cg_pop {nb : Nat} {ki fs F T : Nat → Nat} (G : cg_GR nb ki fs F T) {d : Nat} {stk m tr bk rk : Nat → Nat} {c : Nat} (I : cg_DI nb ki fs T (d + 1) stk m tr bk rk c)
    (hj : tr (stk d) = cg_ex (ki (stk d))) :
    cg_DI nb ki fs T d stk (cs_u m (stk d) 2) tr bk (cs_u rk (stk d) c) (c + 1) ∧ cg_mu nb ki (cs_u m (stk d) 2) tr + 1 = cg_mu nb ki m tr := by
  obtain ⟨h1, h2, h3, h4, h5, h6, h7, h8, h9⟩ := I
  obtain ⟨hb, hm⟩ := h2 d (by omega)
  generalize ht : stk d = t at *
  refine ⟨⟨?_, ?_, ?_, ?_, ?_, h6, ?_, ?_, ?_⟩, ?_⟩
  · intro x hx
    by_cases e : x = t
    · subst e; rw [cs_us, cs_us]; exact ⟨by omega, by omega, by omega, fun _ => ⟨hj, by omega⟩⟩
    · rw [cs_un e, cs_un e]; have := h1 x hx; exact ⟨this.1, this.2.1, this.2.2.1, fun h => ⟨(this.2.2.2 h).1, by have := (this.2.2.2 h).2; omega⟩⟩
  · intro i hi
    obtain ⟨a1, a2⟩ := h2 i (by omega)
    have := h3 i d hi (by omega)
    refine ⟨a1, ?_⟩
    rw [cs_un (by rw [← ht]; exact this)]; exact a2
  · intro i j hij hj'
    exact h3 i j hij (by omega)
  · intro x hx hmx
    by_cases e : x = t
    · subst e; rw [cs_us] at hmx; omega
    · rw [cs_un e] at hmx
      obtain ⟨i, hi, r⟩ := h4 x hx hmx
      refine ⟨i, ?_, r⟩
      have : i ≠ d := by intro e2; subst e2; exact e (r.symm.trans ht)
      omega
  · intro x j hx hjx
    rcases h5 x j hx hjx with h | ⟨a1, a2, a3⟩
    · exact Or.inl h
    · refine Or.inr ⟨a1, ?_, ?_⟩
      · by_cases e : T (fs x + j) = t
        · rw [e, cs_us]; omega
        · rw [cs_un e]; exact a2
      rcases a3 with h | ⟨b1, b2⟩
      · exact Or.inl h
      · refine Or.inr ⟨b1, ?_⟩
        rcases b2 with ⟨c1, c2⟩ | ⟨i, i', q1, q2, q3, q4⟩
        · have hTt : T (fs x + j) ≠ t := by intro e; rw [e] at c1; omega
          refine Or.inl ⟨by rw [cs_un hTt]; exact c1, ?_⟩
          rw [cs_un hTt]
          by_cases e : x = t
          · subst e; rw [cs_us, cs_us]; intro _; exact ((h1 _ a1).2.2.2 c1).2
          · rw [cs_un e, cs_un e]; exact c2
        · by_cases e : i' = d
          · subst e
            have e1 : T (fs x + j) = t := q4.symm.trans ht
            refine Or.inl ⟨by rw [e1, cs_us], ?_⟩
            have hxt : x ≠ t := by
              intro e2; exact h3 i i' q1 (by omega) (by rw [q3, ht]; exact e2)
            have hx1 := (h2 i (by omega)).2
            rw [q3] at hx1
            rw [cs_un hxt]; intro h; omega
          · exact Or.inr ⟨i, i', q1, by omega, q3, q4⟩
  · have := cs_np (n := nb) (k := t) (f := fun x => if cs_u m t 2 x = 1 then 1 else 0) (g := fun x => if m x = 1 then 1 else 0) hb (fun i _ hi => by simp only [cs_un hi])
    simp only [cs_us, hm] at this
    simp at this
    omega
  · have := cs_np (n := nb) (k := t) (f := fun x => if cs_u m t 2 x = 2 then 1 else 0) (g := fun x => if m x = 2 then 1 else 0) hb (fun i _ hi => by simp only [cs_un hi])
    simp only [cs_us, hm] at this
    simp at this
    omega
  · by_cases e : 0 = t
    · rw [← e, cs_us]; omega
    · rw [cs_un e]; exact h9
  · unfold cg_mu
    have := cs_np (n := nb) (k := t) (f := fun x => (cg_ex (ki x) - tr x) + (if cs_u m t 2 x = 2 then 0 else 1)) (g := fun x => (cg_ex (ki x) - tr x) + (if m x = 2 then 0 else 1)) hb (fun i _ hi => by simp only [cs_un hi])
    simp only [cs_us, hm] at this
    simp at this
    omega
/-- what the walk leaves: m b = 2 is 'met', else 0 -/
def cg_DF (nb : Nat) (ki fs T m bk rk : Nat → Nat) : Prop :=
  m 0 = 2 ∧ (∀ b, b < nb → m b = 0 ∨ m b = 2) ∧ (∀ b, b < nb → m b = 2 → rk b < nb) ∧
  (∀ b j, b < nb → m b = 2 → j < cg_ex (ki b) → (T (fs b + j) = 12 ∧ bk (fs b + j) = 0) ∨ (T (fs b + j) < nb ∧ m (T (fs b + j)) = 2 ∧ (bk (fs b + j) = 1 ∨ (bk (fs b + j) = 0 ∧ rk (T (fs b + j)) < rk b)))) ∧
  (∀ b j, b < nb → m b = 0 → j < cg_ex (ki b) → bk (fs b + j) = 0) ∧ bk (fs nb) = 0
theorem cg_end {nb : Nat} {ki fs F T : Nat → Nat} (G : cg_GR nb ki fs F T) {stk m tr bk rk : Nat → Nat} {c : Nat} (I : cg_DI nb ki fs T 0 stk m tr bk rk c) : cg_DF nb ki fs T m bk rk := by
  obtain ⟨h1, h2, h3, h4, h5, ⟨h6, h6'⟩, h7, h8, h9⟩ := I
  have hn1 : ∀ b, b < nb → m b ≠ 1 := by
    intro b hb e
    obtain ⟨i, hi, _⟩ := h4 b hb e
    omega
  have hc : c ≤ nb := by rw [h8]; exact cs_nle (fun i _ => by split <;> omega)
  have hnb := G.1
  refine ⟨?_, ?_, ?_, ?_, ?_, h6'⟩
  · have := (h1 0 (by omega)).1
    have := hn1 0 (by omega)
    omega
  · intro b hb
    have := (h1 b hb).1
    have := hn1 b hb
    omega
  · intro b hb hm
    have := ((h1 b hb).2.2.2 hm).2
    omega
  · intro b j hb hm hj
    have ht := ((h1 b hb).2.2.2 hm).1
    rcases h5 b j hb (by omega) with h | ⟨a1, a2, a3⟩
    · exact Or.inl h
    · have hm2 : m (T (fs b + j)) = 2 := by
        have := (h1 _ a1).1
        have := hn1 _ a1
        omega
      refine Or.inr ⟨a1, hm2, ?_⟩
      rcases a3 with h | ⟨b1, b2⟩
      · exact Or.inl h
      · refine Or.inr ⟨b1, ?_⟩
        rcases b2 with ⟨_, c2⟩ | ⟨i, i', q1, q2, _⟩
        · exact c2 hm
        · omega
  · intro b j hb hm hj
    have := (h1 b hb).2.2.1 hm
    exact h6 b j hb (by omega) hj
theorem cg_bk {nb : Nat} {ki fs F T m bk rk : Nat → Nat} (G : cg_GR nb ki fs F T) (D : cg_DF nb ki fs T m bk rk) {e : Nat} (he : e < fs nb + 1) :
    bk e = 0 ∨ (bk e = 1 ∧ ∃ b j, b < nb ∧ j < cg_ex (ki b) ∧ e = fs b + j ∧ m b = 2 ∧ T e < nb ∧ m (T e) = 2) := by
  obtain ⟨h1, h2, h3, h4, h5, h6⟩ := D
  by_cases h : e < fs nb
  · obtain ⟨b, j, hb, hj, rfl⟩ := cg_split G nb (Nat.le_refl _) e h
    rcases h2 b hb with hm | hm
    · exact Or.inl (h5 b j hb hm hj)
    · rcases h4 b j hb hm hj with ⟨_, q⟩ | ⟨q1, q2, q3 | q3⟩
      · exact Or.inl q
      · exact Or.inr ⟨q3, b, j, hb, hj, rfl, hm, q1, q2⟩
      · exact Or.inl q3.1
  · have : e = fs nb := by omega
    subst this
    exact Or.inl h6
end
section
/-! lists glued: f 0 ++ f 1 ++ .. ++ f (n-1) -/
def cp_fl {α : Type} (f : Nat → List α) : Nat → List α
  | 0 => []
  | n + 1 => cp_fl f n ++ f n
theorem cp_flc {α : Type} {f g : Nat → List α} {n : Nat} (h : ∀ i, i < n → f i = g i) : cp_fl f n = cp_fl g n := by
  induction n with
  | zero => rfl
  | succ n ih => simp only [cp_fl]; rw [ih (fun i hi => h i (by omega)), h n (by omega)]
theorem cp_fls {α : Type} {f : Nat → List α} {n : Nat} : (cp_fl f (n + 1)).length = (cp_fl f n).length + (f n).length := by
  simp only [cp_fl, List.length_append]
theorem cp_flm {α : Type} {f : Nat → List α} {x : α} {n : Nat} : x ∈ cp_fl f n ↔ ∃ j, j < n ∧ x ∈ f j := by
  induction n with
  | zero =>
    constructor
    · intro h; cases h
    · rintro ⟨j, hj, _⟩; omega
  | succ n ih =>
    simp only [cp_fl, List.mem_append]
    rw [ih]
    constructor
    · rintro (⟨j, hj, h⟩ | h)
      · exact ⟨j, by omega, h⟩
      · exact ⟨n, by omega, h⟩
    · rintro ⟨j, hj, h⟩
      by_cases e : j = n
      · subst e; exact Or.inr h
      · exact Or.inl ⟨j, by omega, h⟩
theorem cp_fle {α : Type} {f : Nat → List α} {j : Nat} : ∀ n, j ≤ n → (cp_fl f j).length ≤ (cp_fl f n).length := by
  intro n
  induction n with
  | zero => intro h; have : j = 0 := by omega
            subst this; exact Nat.le_refl _
  | succ n ih =>
    intro h
    by_cases e : j = n + 1
    · subst e; exact Nat.le_refl _
    · have := ih (by omega)
      rw [cp_fls]; omega
theorem cp_flb {α : Type} {f : Nat → List α} {j n : Nat} (h : j < n) : (cp_fl f j).length + (f j).length ≤ (cp_fl f n).length := by
  have := cp_fle (f := f) (j := j + 1) n (by omega)
  rw [cp_fls] at this; exact this
theorem cp_at {α : Type} {f : Nat → List α} {j r : Nat} (hr : r < (f j).length) : ∀ n, j < n → (cp_fl f n)[(cp_fl f j).length + r]? = (f j)[r]? := by
  intro n
  induction n with
  | zero => intro h; omega
  | succ n ih =>
    intro h
    simp only [cp_fl]
    by_cases e : j = n
    · subst e
      rw [List.getElem?_append_right (by omega)]
      congr 1
      omega
    · have hb := cp_flb (f := f) (j := j) (n := n) (by omega)
      rw [List.getElem?_append_left (by omega)]
      exact ih (by omega)
theorem cp_fnd {α : Type} {f : Nat → List α} {k : Nat} : ∀ n, k < (cp_fl f n).length → ∃ j, j < n ∧ (cp_fl f j).length ≤ k ∧ k < (cp_fl f j).length + (f j).length := by
  intro n
  induction n with
  | zero => intro h; exact absurd h (Nat.not_lt_zero _)
  | succ n ih =>
    intro h
    rw [cp_fls] at h
    by_cases e : k < (cp_fl f n).length
    · obtain ⟨j, hj, r⟩ := ih e
      exact ⟨j, by omega, r⟩
    · exact ⟨n, by omega, by omega, h⟩
theorem cp_fln {α : Type} {f : Nat → List α} {n : Nat} (h1 : ∀ j, j < n → (f j).Nodup) (h2 : ∀ i j, i < j → j < n → ∀ x, x ∈ f i → x ∈ f j → False) : (cp_fl f n).Nodup := by
  induction n with
  | zero => exact List.Pairwise.nil
  | succ n ih =>
    simp only [cp_fl]
    refine List.pairwise_append.mpr ⟨ih (fun j hj => h1 j (by omega)) (fun i j hij hj => h2 i j hij (by omega)), h1 n (by omega), ?_⟩
    intro a ha b hb e
    subst e
    obtain ⟨i, hi, hai⟩ := cp_flm.mp ha
    exact h2 i n hi (by omega) a hai hb
theorem cp_fl0 {α : Type} {f : Nat → List α} {n j : Nat} (hj : j < n) (h : 1 ≤ (f j).length) : 1 ≤ (cp_fl f n).length := by
  have := cp_flb (f := f) hj
  omega

/-! the paths: rows of edges from a block to a back edge or outside, in order -/
def cp_E (T bk : Nat → Nat) (L : Nat → List (List Nat)) (e : Nat) : List (List Nat) := if bk e = 1 ∨ T e = 12 then [[e]] else (L (T e)).map (fun p => e :: p)
def cp_L (ki fs T bk : Nat → Nat) : Nat → Nat → List (List Nat)
  | 0, _ => []
  | n + 1, b => cp_fl (fun j => cp_E T bk (cp_L ki fs T bk n) (fs b + j)) (cg_ex (ki b))
def cp_LB (ki fs T bk : Nat → Nat) (b : Nat) : List (List Nat) := cp_L ki fs T bk 12 b
/-- the paths that begin with edge e -/
def cp_LE (ki fs T bk : Nat → Nat) (e : Nat) : List (List Nat) := cp_E T bk (cp_LB ki fs T bk) e
theorem cp_st {nb : Nat} {ki fs T m bk rk : Nat → Nat} (D : cg_DF nb ki fs T m bk rk) : ∀ n b, b < nb → m b = 2 → rk b < n → cp_L ki fs T bk n b = cp_L ki fs T bk (n + 1) b := by
  obtain ⟨h1, h2, h3, h4, h5, h6⟩ := D
  intro n
  induction n with
  | zero => intro b _ _ h; omega
  | succ n ih =>
    intro b hb hm hr
    show cp_fl (fun j => cp_E T bk (cp_L ki fs T bk n) (fs b + j)) (cg_ex (ki b)) = cp_fl (fun j => cp_E T bk (cp_L ki fs T bk (n + 1)) (fs b + j)) (cg_ex (ki b))
    refine cp_flc (fun j hj => ?_)
    unfold cp_E
    by_cases he : bk (fs b + j) = 1 ∨ T (fs b + j) = 12
    · rw [if_pos he, if_pos he]
    · rw [if_neg he, if_neg he]
      rcases h4 b j hb hm hj with ⟨q, _⟩ | ⟨q1, q2, q3 | ⟨q3, q4⟩⟩
      · exact absurd (Or.inr q) he
      · exact absurd (Or.inl q3) he
      · rw [ih _ q1 q2 (by omega)]
theorem cp_eq {nb : Nat} {ki fs F T m bk rk : Nat → Nat} (G : cg_GR nb ki fs F T) (D : cg_DF nb ki fs T m bk rk) {b : Nat} (hb : b < nb) (hm : m b = 2) :
    cp_LB ki fs T bk b = cp_fl (fun j => cp_LE ki fs T bk (fs b + j)) (cg_ex (ki b)) := by
  unfold cp_LB
  have h12 := G.2.1
  have := D.2.2.1 b hb hm
  rw [cp_st D 12 b hb hm (by omega)]
  rfl
theorem cp_LEe {ki fs T bk : Nat → Nat} {e : Nat} (h : bk e = 1 ∨ T e = 12) : cp_LE ki fs T bk e = [[e]] := if_pos h
theorem cp_LEn {ki fs T bk : Nat → Nat} {e : Nat} (h : bk e ≠ 1) (h' : T e ≠ 12) : cp_LE ki fs T bk e = (cp_LB ki fs T bk (T e)).map (fun p => e :: p) := if_neg (by omega)
/-- induction over the rank of a met block -/
theorem cp_ind {nb : Nat} {ki fs T m bk rk : Nat → Nat} (D : cg_DF nb ki fs T m bk rk) (P : Nat → Prop)
    (hs : ∀ b, b < nb → m b = 2 → (∀ j, j < cg_ex (ki b) → bk (fs b + j) ≠ 1 → T (fs b + j) ≠ 12 → P (T (fs b + j))) → P b) : ∀ b, b < nb → m b = 2 → P b := by
  obtain ⟨h1, h2, h3, h4, h5, h6⟩ := D
  have : ∀ n b, b < nb → m b = 2 → rk b < n → P b := by
    intro n
    induction n with
    | zero => intro b _ _ h; omega
    | succ n ih =>
      intro b hb hm hr
      refine hs b hb hm (fun j hj e1 e2 => ?_)
      rcases h4 b j hb hm hj with ⟨q, _⟩ | ⟨q1, q2, q3 | ⟨q3, q4⟩⟩
      · exact absurd q e2
      · exact absurd q3 e1
      · exact ih _ q1 q2 (by omega)
  intro b hb hm
  exact this (rk b + 1) b hb hm (by omega)
theorem cp_LBp {nb : Nat} {ki fs F T m bk rk : Nat → Nat} (G : cg_GR nb ki fs F T) (D : cg_DF nb ki fs T m bk rk) : ∀ b, b < nb → m b = 2 → 1 ≤ (cp_LB ki fs T bk b).length := by
  refine cp_ind D _ (fun b hb hm ih => ?_)
  rw [cp_eq G D hb hm]
  have h0 : 0 < cg_ex (ki b) := (cg_ex1 _).1
  refine cp_fl0 h0 ?_
  show 1 ≤ (cp_LE ki fs T bk (fs b + 0)).length
  by_cases e1 : bk (fs b + 0) = 1
  · rw [cp_LEe (Or.inl e1)]; exact Nat.le_refl _
  · by_cases e2 : T (fs b + 0) = 12
    · rw [cp_LEe (Or.inr e2)]; exact Nat.le_refl _
    · rw [cp_LEn e1 e2, List.length_map]; exact ih 0 h0 e1 e2
theorem cp_LEp {nb : Nat} {ki fs F T m bk rk : Nat → Nat} (G : cg_GR nb ki fs F T) (D : cg_DF nb ki fs T m bk rk) {b j : Nat} (hb : b < nb) (hm : m b = 2) (hj : j < cg_ex (ki b)) : 1 ≤ (cp_LE ki fs T bk (fs b + j)).length := by
  by_cases e1 : bk (fs b + j) = 1
  · rw [cp_LEe (Or.inl e1)]; exact Nat.le_refl _
  · by_cases e2 : T (fs b + j) = 12
    · rw [cp_LEe (Or.inr e2)]; exact Nat.le_refl _
    · rw [cp_LEn e1 e2, List.length_map]
      rcases D.2.2.2.1 b j hb hm hj with ⟨q, _⟩ | ⟨q1, q2, _⟩
      · exact absurd q e2
      · exact cp_LBp G D _ q1 q2
theorem cp_LEh {ki fs T bk : Nat → Nat} {e : Nat} {p : List Nat} (h : p ∈ cp_LE ki fs T bk e) : p.head? = some e := by
  unfold cp_LE cp_E at h
  split at h
  · rw [List.mem_singleton] at h; rw [h]; rfl
  · obtain ⟨q, _, r⟩ := List.mem_map.mp h
    rw [← r]; rfl
theorem cp_LBl {nb : Nat} {ki fs F T m bk rk : Nat → Nat} (G : cg_GR nb ki fs F T) (D : cg_DF nb ki fs T m bk rk) : ∀ b, b < nb → m b = 2 → ∀ p, p ∈ cp_LB ki fs T bk b → 1 ≤ p.length ∧ p.length ≤ rk b + 1 := by
  refine cp_ind D _ (fun b hb hm ih => ?_)
  intro p hp
  rw [cp_eq G D hb hm] at hp
  obtain ⟨j, hj, h⟩ := cp_flm.mp hp
  by_cases e1 : bk (fs b + j) = 1
  · rw [cp_LEe (Or.inl e1), List.mem_singleton] at h; subst h; exact ⟨Nat.le_refl _, by simp⟩
  · by_cases e2 : T (fs b + j) = 12
    · rw [cp_LEe (Or.inr e2), List.mem_singleton] at h; subst h; exact ⟨Nat.le_refl _, by simp⟩
    · rw [cp_LEn e1 e2] at h
      obtain ⟨q, hq, r⟩ := List.mem_map.mp h
      have := ih j hj e1 e2 q hq
      rw [← r, List.length_cons]
      rcases D.2.2.2.1 b j hb hm hj with ⟨q', _⟩ | ⟨q1, q2, q3 | ⟨q3, q4⟩⟩
      · exact absurd q' e2
      · exact absurd q3 e1
      · omega
theorem cp_LBn {nb : Nat} {ki fs F T m bk rk : Nat → Nat} (G : cg_GR nb ki fs F T) (D : cg_DF nb ki fs T m bk rk) : ∀ b, b < nb → m b = 2 → (cp_LB ki fs T bk b).Nodup := by
  refine cp_ind D _ (fun b hb hm ih => ?_)
  rw [cp_eq G D hb hm]
  refine cp_fln (fun j hj => ?_) (fun i j hij hj x hx hy => ?_)
  · by_cases e1 : bk (fs b + j) = 1
    · rw [cp_LEe (Or.inl e1)]; simp
    · by_cases e2 : T (fs b + j) = 12
      · rw [cp_LEe (Or.inr e2)]; simp
      · rw [cp_LEn e1 e2]
        have h := ih j hj e1 e2
        refine List.pairwise_map.mpr (List.Pairwise.imp ?_ h)
        intro a c hac e
        exact hac (List.cons.inj e).2
  · have h1 := cp_LEh hx
    have h2 := cp_LEh hy
    rw [h1] at h2
    have := Option.some.inj h2
    omega
/-- whether paths begin at b: block 0, and the targets of back edges -/
def cp_s (T bk : Nat → Nat) : Nat → Nat → Nat
  | 0, b => if b = 0 then 1 else 0
  | n + 1, b => if bk n = 1 ∧ T n = b then 1 else cp_s T bk n b
theorem cp_s01 (T bk : Nat → Nat) : ∀ n b, cp_s T bk n b = 0 ∨ cp_s T bk n b = 1 := by
  intro n
  induction n with
  | zero => intro b; unfold cp_s; split <;> omega
  | succ n ih => intro b; unfold cp_s; split
                 · exact Or.inr rfl
                 · exact ih b
theorem cp_s1 (T bk : Nat → Nat) : ∀ n b, cp_s T bk n b = 1 ↔ (b = 0 ∨ ∃ e, e < n ∧ bk e = 1 ∧ T e = b) := by
  intro n
  induction n with
  | zero =>
    intro b; unfold cp_s
    by_cases h : b = 0
    · rw [if_pos h]; exact ⟨fun _ => Or.inl h, fun _ => rfl⟩
    · rw [if_neg h]
      constructor
      · intro h'; omega
      · rintro (h' | ⟨e, he, _⟩)
        · exact absurd h' h
        · omega
  | succ n ih =>
    intro b; unfold cp_s
    by_cases h : bk n = 1 ∧ T n = b
    · rw [if_pos h]; exact ⟨fun _ => Or.inr ⟨n, by omega, h⟩, fun _ => rfl⟩
    · rw [if_neg h, ih]
      constructor
      · rintro (h' | ⟨e, he, r⟩)
        · exact Or.inl h'
        · exact Or.inr ⟨e, by omega, r⟩
      · rintro (h' | ⟨e, he, r⟩)
        · exact Or.inl h'
        · refine Or.inr ⟨e, ?_, r⟩
          have : e ≠ n := by intro e1; subst e1; exact h r
          omega
theorem cp_sm {nb : Nat} {ki fs F T m bk rk : Nat → Nat} (G : cg_GR nb ki fs F T) (D : cg_DF nb ki fs T m bk rk) {b : Nat} (h : cp_s T bk (fs nb + 1) b = 1) : b < nb ∧ m b = 2 := by
  rcases (cp_s1 T bk _ b).mp h with rfl | ⟨e, he, h1, h2⟩
  · have := G.1
    exact ⟨by omega, D.1⟩
  · rcases cg_bk G D he with h | ⟨_, b', j, _, _, _, _, q1, q2⟩
    · omega
    · rw [h2] at q1 q2; exact ⟨q1, q2⟩
/-- all paths, of the blocks below n where paths begin -/
def cp_B (nb : Nat) (ki fs T bk : Nat → Nat) (b : Nat) : List (List Nat) := if cp_s T bk (fs nb + 1) b = 1 then cp_LB ki fs T bk b else []
def cp_LL (nb : Nat) (ki fs T bk : Nat → Nat) (n : Nat) : List (List Nat) := cp_fl (cp_B nb ki fs T bk) n
theorem cp_LLl {nb : Nat} {ki fs F T m bk rk : Nat → Nat} (G : cg_GR nb ki fs F T) (D : cg_DF nb ki fs T m bk rk) {n : Nat} {p : List Nat} (h : p ∈ cp_LL nb ki fs T bk n) : 1 ≤ p.length ∧ p.length ≤ 12 := by
  obtain ⟨b, hb, hp⟩ := cp_flm.mp h
  unfold cp_B at hp
  by_cases hs : cp_s T bk (fs nb + 1) b = 1
  · rw [if_pos hs] at hp
    obtain ⟨h1, h2⟩ := cp_sm G D hs
    have := cp_LBl G D b h1 h2 p hp
    have := D.2.2.1 b h1 h2
    have := G.2.1
    omega
  · rw [if_neg hs] at hp; cases hp
theorem cp_LBh {nb : Nat} {ki fs F T m bk rk : Nat → Nat} (G : cg_GR nb ki fs F T) (D : cg_DF nb ki fs T m bk rk) {b : Nat} (hb : b < nb) (hm : m b = 2) {p : List Nat} (h : p ∈ cp_LB ki fs T bk b) : ∃ j, j < cg_ex (ki b) ∧ p.head? = some (fs b + j) := by
  rw [cp_eq G D hb hm] at h
  obtain ⟨j, hj, hp⟩ := cp_flm.mp h
  exact ⟨j, hj, cp_LEh hp⟩
theorem cp_LLn {nb : Nat} {ki fs F T m bk rk : Nat → Nat} (G : cg_GR nb ki fs F T) (D : cg_DF nb ki fs T m bk rk) (n : Nat) : (cp_LL nb ki fs T bk n).Nodup := by
  refine cp_fln (fun b _ => ?_) (fun b c hbc _ x hx hy => ?_)
  · unfold cp_B
    by_cases hs : cp_s T bk (fs nb + 1) b = 1
    · rw [if_pos hs]
      obtain ⟨h1, h2⟩ := cp_sm G D hs
      exact cp_LBn G D b h1 h2
    · rw [if_neg hs]; exact List.Pairwise.nil
  · unfold cp_B at hx hy
    by_cases hs : cp_s T bk (fs nb + 1) b = 1
    · by_cases hs' : cp_s T bk (fs nb + 1) c = 1
      · rw [if_pos hs] at hx
        rw [if_pos hs'] at hy
        obtain ⟨h1, h2⟩ := cp_sm G D hs
        obtain ⟨h1', h2'⟩ := cp_sm G D hs'
        obtain ⟨j, hj, e⟩ := cp_LBh G D h1 h2 hx
        obtain ⟨j', hj', e'⟩ := cp_LBh G D h1' h2' hy
        rw [e] at e'
        have := (cg_uq G h1 hj h1' hj' (Option.some.inj e')).1
        omega
      · rw [if_neg hs'] at hy; cases hy
    · rw [if_neg hs] at hx; cases hx

/-! numbers kept up to 300: equal, or both beyond -/
def cp_sr (s n : Nat) : Prop := s = n ∨ (300 < s ∧ 300 < n)
theorem cp_sr0 : cp_sr 0 0 := Or.inl rfl
theorem cp_sra {s n w k : Nat} (h : cp_sr s n) (h' : cp_sr w k) (hs : s ≤ 300) : cp_sr (s + w) (n + k) := by
  unfold cp_sr at *; omega
theorem cp_srb {s n : Nat} (h : cp_sr s n) (hs : 300 < s) (k : Nat) : cp_sr s (n + k) := by
  unfold cp_sr at *; omega
/-- where a run stands: behind the edges pi, at block b, the paths that go on from b are LL's from number q on -/
def cp_in (L : List (List Nat)) (q : Nat) (pi : List Nat) (M : List (List Nat)) : Prop := ∀ r, r < M.length → L[q + r]? = (M[r]?).map (fun p => pi ++ p)
theorem cp_in1 {nb : Nat} {ki fs F T m bk rk : Nat → Nat} (G : cg_GR nb ki fs F T) (D : cg_DF nb ki fs T m bk rk) {b j q : Nat} {pi : List Nat} {L : List (List Nat)} (hb : b < nb) (hm : m b = 2) (hj : j < cg_ex (ki b))
    (h : cp_in L q pi (cp_LB ki fs T bk b)) : cp_in L (q + (cp_fl (fun i => cp_LE ki fs T bk (fs b + i)) j).length) pi (cp_LE ki fs T bk (fs b + j)) := by
  intro r hr
  rw [cp_eq G D hb hm] at h
  have hb' := cp_flb (f := fun i => cp_LE ki fs T bk (fs b + i)) hj
  have := h ((cp_fl (fun i => cp_LE ki fs T bk (fs b + i)) j).length + r) (by omega)
  rw [cp_at (f := fun i => cp_LE ki fs T bk (fs b + i)) hr _ hj] at this
  rw [← Nat.add_assoc] at this
  exact this
theorem cp_in2 {ki fs T bk : Nat → Nat} {e q : Nat} {pi : List Nat} {L : List (List Nat)} (h1 : bk e ≠ 1) (h2 : T e ≠ 12)
    (h : cp_in L q pi (cp_LE ki fs T bk e)) : cp_in L q (pi ++ [e]) (cp_LB ki fs T bk (T e)) := by
  intro r hr
  rw [cp_LEn h1 h2] at h
  have := h r (by rw [List.length_map]; exact hr)
  rw [this, List.getElem?_map, Option.map_map]
  congr 1
  funext p
  simp
theorem cp_in3 {ki fs T bk : Nat → Nat} {e q : Nat} {pi : List Nat} {L : List (List Nat)} (h1 : bk e = 1 ∨ T e = 12)
    (h : cp_in L q pi (cp_LE ki fs T bk e)) : L[q]? = some (pi ++ [e]) := by
  rw [cp_LEe h1] at h
  exact h 0 (by simp)
theorem cp_in0 {nb : Nat} {ki fs T bk : Nat → Nat} {b : Nat} (hb : b < nb) (hs : cp_s T bk (fs nb + 1) b = 1) : cp_in (cp_LL nb ki fs T bk nb) (cp_LL nb ki fs T bk b).length [] (cp_LB ki fs T bk b) := by
  intro r hr
  have e : cp_B nb ki fs T bk b = cp_LB ki fs T bk b := if_pos hs
  have := cp_at (f := cp_B nb ki fs T bk) (j := b) (r := r) (by rw [e]; exact hr) nb hb
  rw [e] at this
  unfold cp_LL
  rw [this]
  simp
end
section
/-! joining classes of places edge by edge -/
def ct_jc (F T : Nat → Nat) (c : Nat → Nat) (e : Nat) : Nat → Nat := fun p => if c p = c (T e) then c (F e) else c p
def ct_cf (F T : Nat → Nat) : List Nat → (Nat → Nat) → Nat → Nat
  | [], c => c
  | e :: l, c => ct_cf F T l (ct_jc F T c e)
/-- whether edge e is in the tree, if the edges come in the order of the list -/
def ct_tv (F T : Nat → Nat) : List Nat → (Nat → Nat) → Nat → Nat
  | [], _, _ => 0
  | a :: l, c, e => if a = e then (if c (F a) = c (T a) then 0 else 1) else ct_tv F T l (ct_jc F T c a) e
theorem ct_tv01 (F T : Nat → Nat) : ∀ l c e, ct_tv F T l c e ≤ 1 := by
  intro l
  induction l with
  | nil => intro c e; exact Nat.zero_le _
  | cons a l ih =>
    intro c e; unfold ct_tv; split
    · split <;> omega
    · exact ih _ _
theorem ct_tva (F T : Nat → Nat) : ∀ l1 l2 c e, ¬ e ∈ l1 → ct_tv F T (l1 ++ l2) c e = ct_tv F T l2 (ct_cf F T l1 c) e := by
  intro l1
  induction l1 with
  | nil => intro l2 c e _; rfl
  | cons a l ih =>
    intro l2 c e he
    have h1 : a ≠ e := by intro h; subst h; exact he (List.mem_cons_self)
    show (if a = e then _ else _) = _
    rw [if_neg h1]
    exact ih l2 _ e (fun h => he (List.mem_cons_of_mem _ h))
theorem ct_tvb (F T : Nat → Nat) : ∀ l1 l2 c e, e ∈ l1 → ct_tv F T (l1 ++ l2) c e = ct_tv F T l1 c e := by
  intro l1
  induction l1 with
  | nil => intro l2 c e h; cases h
  | cons a l ih =>
    intro l2 c e he
    show (if a = e then _ else _) = (if a = e then _ else _)
    by_cases h1 : a = e
    · rw [if_pos h1, if_pos h1]
    · rw [if_neg h1, if_neg h1]
      refine ih l2 _ e ?_
      rcases List.mem_cons.mp he with h | h
      · exact absurd h.symm h1
      · exact h
theorem ct_cfa (F T : Nat → Nat) : ∀ l1 l2 c, ct_cf F T (l1 ++ l2) c = ct_cf F T l2 (ct_cf F T l1 c) := by
  intro l1
  induction l1 with
  | nil => intro l2 c; rfl
  | cons a l ih => intro l2 c; exact ih l2 _

/-! in a set U of edges of the tree some place has just one of them -/
def ct_ic (F T : Nat → Nat) (e p : Nat) : Prop := F e = p ∨ T e = p
def ct_In (F T : Nat → Nat) (U : Nat → Prop) (l : List Nat) (p : Nat) : Prop := ∃ e, e ∈ l ∧ U e ∧ ct_ic F T e p
def ct_Un (F T : Nat → Nat) (U : Nat → Prop) (l : List Nat) (p : Nat) : Prop := ∃ e, e ∈ l ∧ U e ∧ ct_ic F T e p ∧ ∀ e', e' ∈ l → U e' → ct_ic F T e' p → e' = e
def ct_Q (F T : Nat → Nat) (U : Nat → Prop) (c : Nat → Nat) (l : List Nat) : Prop := ∀ v, ct_In F T U l v → ∃ p q, p ≠ q ∧ ct_Un F T U l p ∧ ct_Un F T U l q ∧ c p = c v ∧ c q = c v
theorem ct_Unm {F T : Nat → Nat} {U : Nat → Prop} {l : List Nat} {e p : Nat} (h : ct_Un F T U l p) (hn : ¬ (U e ∧ ct_ic F T e p)) : ct_Un F T U (l ++ [e]) p := by
  obtain ⟨a, h1, h2, h3, h4⟩ := h
  refine ⟨a, List.mem_append_left _ h1, h2, h3, ?_⟩
  intro e' he' hu hi
  rcases List.mem_append.mp he' with h | h
  · exact h4 e' h hu hi
  · rw [List.mem_singleton] at h; subst h; exact absurd ⟨hu, hi⟩ hn
theorem ct_Unn {F T : Nat → Nat} {U : Nat → Prop} {l : List Nat} {e p : Nat} (h : ¬ ct_In F T U l p) (hu : U e) (hi : ct_ic F T e p) : ct_Un F T U (l ++ [e]) p := by
  refine ⟨e, List.mem_append_right _ (List.mem_singleton.mpr rfl), hu, hi, ?_⟩
  intro e' he' hu' hi'
  rcases List.mem_append.mp he' with h' | h'
  · exact absurd ⟨e', h', hu', hi'⟩ h
  · exact List.mem_singleton.mp h'
/-- in the class of a (an end of the new edge, no other of which is in the class) a place with one U edge -/
theorem ct_half {F T : Nat → Nat} {U : Nat → Prop} {c : Nat → Nat} {l : List Nat} {e a b : Nat} (Q : ct_Q F T U c l) (hu : U e) (hi : ct_ic F T e a) (hab : c a ≠ c b)
    (ho : ∀ p, ct_ic F T e p → p = a ∨ p = b) : ∃ p, ct_Un F T U (l ++ [e]) p ∧ c p = c a := by
  by_cases h : ct_In F T U l a
  · obtain ⟨p, q, hpq, up, uq, cp, cq⟩ := Q a h
    have key : ∀ x, ct_Un F T U l x → c x = c a → x ≠ a → ct_Un F T U (l ++ [e]) x := by
      intro x ux cx hx
      refine ct_Unm ux (fun hh => ?_)
      rcases ho x hh.2 with h1 | h1
      · exact hx h1
      · subst h1; exact hab cx.symm
    by_cases hp : p = a
    · exact ⟨q, key q uq cq (fun h => hpq (hp.trans h.symm)), cq⟩
    · exact ⟨p, key p up cp hp, cp⟩
  · exact ⟨a, ct_Unn h hu hi, rfl⟩
theorem ct_Qs {F T : Nat → Nat} {U : Nat → Prop} {c : Nat → Nat} {l : List Nat} {e : Nat} (Q : ct_Q F T U c l) (hU : U e → c (F e) ≠ c (T e)) : ct_Q F T U (ct_jc F T c e) (l ++ [e]) := by
  intro v hv
  by_cases hu : U e
  · have hne := hU hu
    have ho : ∀ p, ct_ic F T e p → p = F e ∨ p = T e := by
      intro p hp
      rcases hp with h | h
      · exact Or.inl h.symm
      · exact Or.inr h.symm
    have hF : ct_ic F T e (F e) := Or.inl rfl
    have hT : ct_ic F T e (T e) := Or.inr rfl
    by_cases hc : c v = c (F e) ∨ c v = c (T e)
    · obtain ⟨p, up, cp⟩ := ct_half Q hu hF hne ho
      obtain ⟨q, uq, cq⟩ := ct_half Q hu hT (Ne.symm hne) (fun x hx => (ho x hx).symm)
      have hv' : ct_jc F T c e v = c (F e) := by
        unfold ct_jc; split
        · rfl
        · rcases hc with h | h
          · exact h
          · exact absurd h (by assumption)
      refine ⟨p, q, ?_, up, uq, ?_, ?_⟩
      · intro h; subst h; exact hne (cp.symm.trans cq)
      · rw [hv']; unfold ct_jc; rw [cp]; split <;> rfl
      · rw [hv']; unfold ct_jc; rw [if_pos cq]
    · have hin : ct_In F T U l v := by
        obtain ⟨a, h1, h2, h3⟩ := hv
        rcases List.mem_append.mp h1 with h | h
        · exact ⟨a, h, h2, h3⟩
        · rw [List.mem_singleton] at h
          subst h
          rcases ho v h3 with h' | h'
          · exact absurd (Or.inl (congrArg c h')) hc
          · exact absurd (Or.inr (congrArg c h')) hc
      obtain ⟨p, q, hpq, up, uq, cp, cq⟩ := Q v hin
      have key : ∀ x, ct_Un F T U l x → c x = c v → ct_Un F T U (l ++ [e]) x ∧ ct_jc F T c e x = ct_jc F T c e v := by
        intro x ux cx
        refine ⟨ct_Unm ux (fun hh => ?_), ?_⟩
        · rcases ho x hh.2 with h' | h'
          · exact hc (Or.inl (cx.symm.trans (congrArg c h')))
          · exact hc (Or.inr (cx.symm.trans (congrArg c h')))
        · unfold ct_jc; rw [cx]
      exact ⟨p, q, hpq, (key p up cp).1, (key q uq cq).1, (key p up cp).2, (key q uq cq).2⟩
  · have hin : ct_In F T U l v := by
      obtain ⟨a, h1, h2, h3⟩ := hv
      rcases List.mem_append.mp h1 with h | h
      · exact ⟨a, h, h2, h3⟩
      · rw [List.mem_singleton] at h
        subst h
        exact absurd h2 hu
    obtain ⟨p, q, hpq, up, uq, cp, cq⟩ := Q v hin
    refine ⟨p, q, hpq, ct_Unm up (fun h => hu h.1), ct_Unm uq (fun h => hu h.1), ?_, ?_⟩
    · unfold ct_jc; rw [cp]
    · unfold ct_jc; rw [cq]
theorem ct_Ql {F T : Nat → Nat} {U : Nat → Prop} : ∀ l2 l1 c, ct_Q F T U c l1 → l2.Nodup → (∀ e, e ∈ l2 → U e → ct_tv F T l2 c e = 1) → ∃ c', ct_Q F T U c' (l1 ++ l2) := by
  intro l2
  induction l2 with
  | nil => intro l1 c Q _ _; exact ⟨c, by rw [List.append_nil]; exact Q⟩
  | cons a l ih =>
    intro l1 c Q hn hU
    have hna : ¬ a ∈ l := (List.nodup_cons.mp hn).1
    have Q' := ct_Qs (e := a) Q (fun hu h => by
      have := hU a List.mem_cons_self hu
      unfold ct_tv at this
      rw [if_pos rfl, if_pos h] at this
      omega)
    obtain ⟨c', h⟩ := ih (l1 ++ [a]) _ Q' (List.nodup_cons.mp hn).2 (fun e he hu => by
      have := hU e (List.mem_cons_of_mem _ he) hu
      unfold ct_tv at this
      rw [if_neg (by intro h; subst h; exact hna he)] at this
      exact this)
    exact ⟨c', by rw [List.append_assoc] at h; exact h⟩
/-- the leaf -/
theorem ct_leaf {F T : Nat → Nat} {U : Nat → Prop} {l : List Nat} {c : Nat → Nat} (hn : l.Nodup) (hU : ∀ e, e ∈ l → U e → ct_tv F T l c e = 1) {e : Nat} (he : e ∈ l) (hu : U e) : ∃ p, ct_Un F T U l p := by
  obtain ⟨c', Q⟩ := ct_Ql (F := F) (T := T) (U := U) l [] c (by
    intro v hv
    obtain ⟨a, h1, _⟩ := hv
    cases h1) hn hU
  obtain ⟨p, q, _, up, _⟩ := Q (F e) ⟨e, he, hu, Or.inl rfl⟩
  exact ⟨p, up⟩
/-- an edge of the tree has two ends -/
theorem ct_two {F T : Nat → Nat} : ∀ l c e, ct_tv F T l c e = 1 → F e ≠ T e := by
  intro l
  induction l with
  | nil => intro c e h; unfold ct_tv at h; omega
  | cons a l ih =>
    intro c e h
    unfold ct_tv at h
    by_cases h1 : a = e
    · rw [if_pos h1] at h
      intro h2
      subst h1
      rw [if_pos (by rw [h2])] at h
      omega
    · rw [if_neg h1] at h
      exact ih _ e h

/-! one order: two lists of the same numbers, each rising by a strict order, are one -/
theorem ct_sort {R : Nat → Nat → Prop} (ha : ∀ a b, R a b → R b a → False) : ∀ l l' : List Nat, l.Pairwise R → l'.Pairwise R → (∀ e, e ∈ l ↔ e ∈ l') → l = l' := by
  intro l
  induction l with
  | nil =>
    intro l' _ _ h
    cases l' with
    | nil => rfl
    | cons a t => exact absurd ((h a).mpr List.mem_cons_self) (by intro h; cases h)
  | cons a t ih =>
    intro l' h1 h2 h
    cases l' with
    | nil => exact absurd ((h a).mp List.mem_cons_self) (by intro h; cases h)
    | cons b s =>
      obtain ⟨p1, p2⟩ := List.pairwise_cons.mp h1
      obtain ⟨q1, q2⟩ := List.pairwise_cons.mp h2
      have irr : ∀ x, R x x → False := fun x hx => ha x x hx hx
      have hab : a = b := by
        rcases List.mem_cons.mp ((h a).mp List.mem_cons_self) with e | e
        · exact e
        · rcases List.mem_cons.mp ((h b).mpr List.mem_cons_self) with e' | e'
          · exact e'.symm
          · exact (ha a b (p1 b e') (q1 a e)).elim
      subst hab
      have : t = s := by
        refine ih s p2 q2 (fun e => ?_)
        constructor
        · intro he
          rcases List.mem_cons.mp ((h e).mp (List.mem_cons_of_mem _ he)) with e' | e'
          · subst e'; exact (irr _ (p1 _ he)).elim
          · exact e'
        · intro he
          rcases List.mem_cons.mp ((h e).mpr (List.mem_cons_of_mem _ he)) with e' | e'
          · subst e'; exact (irr _ (q1 _ he)).elim
          · exact e'
      rw [this]
/-- edges come by falling weight, then by number -/
def ct_R (w : Nat → Int) (a b : Nat) : Prop := w b < w a ∨ (w a = w b ∧ a < b)
theorem ct_Ra (w : Nat → Int) : ∀ a b, ct_R w a b → ct_R w b a → False := by
  intro a b h1 h2
  unfold ct_R at h1 h2
  omega
theorem ct_Rn {w : Nat → Int} {l : List Nat} (h : l.Pairwise (ct_R w)) : l.Nodup := by
  refine List.Pairwise.imp ?_ h
  intro a b hab e
  subst e
  exact ct_Ra w a a hab hab

/-! the two ways to keep classes are alike: roots r and marks c -/
def ct_al (r c : Nat → Nat) : Prop := ∀ p q, p < 13 → q < 13 → (r p = r q ↔ c p = c q)
theorem ct_alj {F T r c : Nat → Nat} {e : Nat} (h : ct_al r c) (hF : F e < 13) (hT : T e < 13) : ct_al (fun p => if r p = r (F e) then r (T e) else r p) (ct_jc F T c e) := by
  intro p q hp hq
  have h1 := h p q hp hq
  have h2 := h p (F e) hp hF
  have h3 := h p (T e) hp hT
  have h4 := h q (F e) hq hF
  have h5 := h q (T e) hq hT
  have h6 := h (F e) (T e) hF hT
  unfold ct_jc
  dsimp only
  by_cases a1 : r p = r (F e) <;> by_cases a2 : r q = r (F e) <;> by_cases b1 : c p = c (T e) <;> by_cases b2 : c q = c (T e) <;> simp only [a1, a2, b1, b2, if_true, if_false] <;> grind
end
section
/-! what comes and goes at a place: Int32 is a ring, no bounds are needed -/
theorem cs_im {n : Nat} {f g h : Nat → Int32} (e : ∀ i, i < n → f i = g i - h i) : cs_i n f = cs_i n g - cs_i n h := by
  induction n with
  | zero => show (0 : Int32) = 0 - 0; decide
  | succ n ih =>
    simp only [cs_i]
    rw [ih (fun i hi => e i (by omega)), e n (by omega)]
    grind
def cf_dl (b p : Nat) : Int32 := if p = b then 1 else 0
def cf_c (nb : Nat) (c : Nat → Int32) (p : Nat) : Int32 := if p = 12 then - cs_i nb c else c p
def cf_in (ne : Nat) (E : Nat → Nat) (g : Nat → Int32) (p : Nat) : Int32 := cs_i ne (fun e => if E e = p then g e else 0)
def cf_bal (nb ne : Nat) (F T : Nat → Nat) (c g : Nat → Int32) (p : Nat) : Int32 := cf_in ne T g p - cf_in ne F g p - cf_c nb c p
theorem cf_inu {ne : Nat} {E : Nat → Nat} {g : Nat → Int32} {p e : Nat} (he : e < ne) : cf_in ne E (upd g e (g e + 1)) p = cf_in ne E g p + cf_dl (E e) p := by
  unfold cf_in cf_dl
  refine cs_ip (k := e) he (fun i _ hi => ?_) ?_
  · rw [pk_un hi]
  · rw [pk_us]
    by_cases h : E e = p
    · rw [if_pos h, if_pos h, if_pos h.symm]
    · rw [if_neg h, if_neg h, if_neg (Ne.symm h)]; rfl
theorem cf_cu {nb : Nat} {c : Nat → Int32} {b p : Nat} (hb : b < nb) (h12 : nb ≤ 12) : cf_c nb (upd c b (c b + 1)) p = cf_c nb c p + cf_dl b p - cf_dl 12 p := by
  have hs : cs_i nb (upd c b (c b + 1)) = cs_i nb c + 1 := cs_ip (k := b) hb (fun i _ hi => pk_un hi) pk_us
  unfold cf_c cf_dl
  by_cases h : p = 12
  · rw [if_pos h, if_pos h, if_pos h, if_neg (by omega), hs]; grind
  · rw [if_neg h, if_neg h, if_neg h]
    by_cases e : p = b
    · subst e; rw [pk_us, if_pos rfl]; grind
    · rw [pk_un e, if_neg e]; grind
/-- the counters of one slot: here (h hits, c cuts, w paths, r runs) and there (g edges, d blocks, y paths, k cut off) -/
def cf_CS (nb : Nat) (ki fs F T bk tr : Nat → Nat) (h c w : Nat → Int32) (r : Int32) (g d y : Nat → Int32) (k : Int32) : Prop :=
  (∀ e, e < fs nb + 1 → tr e = 0 → h e = g e) ∧
  (∀ p, p < nb ∨ p = 12 → cf_bal nb (fs nb + 1) F T c g p = 0) ∧
  (∀ b, b < nb → d b = c b + cf_in (fs nb + 1) F g b) ∧
  k = cs_i nb c ∧
  (∃ n : Nat, n ≤ 1000000 ∧ r = nI n ∧ g (fs nb) = nI n) ∧
  ((cp_LL nb ki fs T bk nb).length ≤ 300 → ∀ p, p < (cp_LL nb ki fs T bk nb).length → w p = y p)
theorem cf_in0 {ne : Nat} {E : Nat → Nat} {g : Nat → Int32} {p : Nat} (h : ∀ e, e < ne → g e = 0) : cf_in ne E g p = 0 := by
  unfold cf_in
  refine cs_iz (fun i hi => ?_)
  rw [h i hi]; split <;> rfl
theorem cf_ina {ne : Nat} {E : Nat → Nat} {f g h : Nat → Int32} {p : Nat} (e : ∀ i, i < ne → f i = g i + h i) : cf_in ne E f p = cf_in ne E g p + cf_in ne E h p := by
  unfold cf_in
  refine cs_ia (fun i hi => ?_)
  rw [e i hi]; split
  · rfl
  · rfl
theorem cf_CS0 {nb : Nat} {ki fs F T bk tr : Nat → Nat} {h c w : Nat → Int32} {r : Int32} {g d y : Nat → Int32} {k : Int32} (hne : fs nb < 37) (hnb : nb ≤ 12)
    (h1 : ∀ e, e < 37 → h e = 0) (h2 : ∀ b, b < 12 → c b = 0) (h3 : ∀ p, p < 300 → w p = 0) (h4 : r = 0) (h5 : ∀ e, e < 37 → g e = 0) (h6 : ∀ b, b < 12 → d b = 0) (h7 : ∀ p, p < 300 → y p = 0) (h8 : k = 0) :
    cf_CS nb ki fs F T bk tr h c w r g d y k := by
  have hc : cs_i nb c = 0 := cs_iz (fun i hi => h2 i (by omega))
  refine ⟨fun e he _ => by rw [h1 e (by omega), h5 e (by omega)], fun p hp => ?_, fun b hb => ?_, ?_, ⟨0, by omega, h4, h5 _ (by omega)⟩, fun hl p hp => by rw [h3 p (by omega), h7 p (by omega)]⟩
  · unfold cf_bal
    rw [cf_in0 (fun e he => h5 e (by omega)), cf_in0 (fun e he => h5 e (by omega))]
    unfold cf_c
    rw [hc]
    rcases hp with hp | hp
    · rw [if_neg (by omega), h2 p (by omega)]; rfl
    · rw [if_pos hp]; rfl
  · rw [cf_in0 (fun e he => h5 e (by omega)), h6 b (by omega), h2 b (by omega)]; rfl
  · rw [hc, h8]
theorem cf_CSa {nb : Nat} {ki fs F T bk tr : Nat → Nat} {h c w : Nat → Int32} {r : Int32} {g d y : Nat → Int32} {k : Int32} {h' c' w' : Nat → Int32} {r' : Int32} {g' d' y' : Nat → Int32} {k' : Int32}
    {h'' c'' w'' : Nat → Int32} {r'' : Int32} {g'' d'' y'' : Nat → Int32} {k'' : Int32} (hne : fs nb < 37) (hnb : nb ≤ 12)
    (A : cf_CS nb ki fs F T bk tr h c w r g d y k) (B : cf_CS nb ki fs F T bk tr h' c' w' r' g' d' y' k') (hr : r + r' ≤ 1000000)
    (h1 : ∀ e, e < 37 → h'' e = h' e + h e) (h2 : ∀ b, b < 12 → c'' b = c' b + c b) (h3 : ∀ p, p < 300 → w'' p = w' p + w p) (h4 : r'' = r' + r)
    (h5 : ∀ e, e < 37 → g'' e = g e + g' e) (h6 : ∀ b, b < 12 → d'' b = d b + d' b) (h7 : ∀ p, p < 300 → y'' p = y p + y' p) (h8 : k'' = k + k') :
    cf_CS nb ki fs F T bk tr h'' c'' w'' r'' g'' d'' y'' k'' := by
  obtain ⟨a1, a2, a3, a4, ⟨n, an, ar, ag⟩, a6⟩ := A
  obtain ⟨b1, b2, b3, b4, ⟨n', bn, br, bg⟩, b6⟩ := B
  have hc : cs_i nb c'' = cs_i nb c' + cs_i nb c := cs_ia (fun i hi => h2 i (by omega))
  have hT : ∀ E p, cf_in (fs nb + 1) E g'' p = cf_in (fs nb + 1) E g p + cf_in (fs nb + 1) E g' p := fun E p => cf_ina (fun i hi => h5 i (by omega))
  refine ⟨fun e he ht => by rw [h1 e (by omega), h5 e (by omega), a1 e he ht, b1 e he ht]; ac_rfl, fun p hp => ?_, fun b hb => ?_, ?_, ?_, fun hl p hp => ?_⟩
  · have x1 := a2 p hp
    have x2 := b2 p hp
    unfold cf_bal at *
    rw [hT, hT]
    have x3 : cf_c nb c'' p = cf_c nb c p + cf_c nb c' p := by
      unfold cf_c
      rcases hp with hp | hp
      · rw [if_neg (by omega), if_neg (by omega), if_neg (by omega), h2 p (by omega)]; ac_rfl
      · rw [if_pos hp, if_pos hp, if_pos hp, hc]; grind
    rw [x3]
    grind
  · rw [hT, h6 b (by omega), a3 b hb, b3 b hb, h2 b (by omega)]; ac_rfl
  · rw [hc, h8, a4, b4]; ac_rfl
  · refine ⟨n' + n, ?_, by rw [h4, ar, br, nI_add], by rw [h5 _ (by omega), ag, bg, nI_add, Nat.add_comm]⟩
    rw [ar, br, nI_add] at hr
    have := (nI_leI (a := n + n') (b := 1000000) (by omega) (by omega)).mp hr
    omega
  · rw [h3 p (by omega), h7 p (by omega), a6 hl p hp, b6 hl p hp]; ac_rfl
end
section
/-! THE RELATION -/
/-- the draft: dr blocks; kinds and ops within; targets alike where they are used -/
def cr_D (dr : Nat) (op kind tX tY : Nat → Int32) : Prop :=
  dr ≤ 12 ∧ (∀ i, i < 24 → ∃ o, o ≤ 7 ∧ op i = nI o) ∧ (∀ i, i < 24 → ∃ k, k ≤ 5 ∧ kind i = nI k) ∧
  (∀ b k, b < 12 → kind b = nI k → 0 < k → k ≤ 5 → ∀ j, j < cg_ex k → ∃ t, t < 12 ∧ tX (3 * b + j) = nI t ∧ tY (3 * b + j) = nI t)
/-- versions: the number of plants, and what it was at the dumps -/
def cr_V (k : Nat) (ver : Nat → Int32) : Prop := ∃ vv : Nat → Nat, vv 0 ≤ k ∧ ∀ i, i < 3 → ver i = nI (vv i) ∧ vv i ≤ vv 0
/-- the edges, on both sides -/
def cr_E (nb : Nat) (ki fs F T : Nat → Nat) (fB fE gB gE : Int32) (kind aF aT aE aFi bF bT bE bFi : Nat → Int32) : Prop :=
  cg_GR nb ki fs F T ∧ (fB = nI nb ∧ gB = nI nb ∧ fE = nI (fs nb + 1) ∧ gE = nI (fs nb + 1)) ∧ (∀ b, b < nb → kind (12 + b) = nI (ki b)) ∧
  (∀ e, e < fs nb + 1 → aF e = nI (F e) ∧ bF e = cd_cv (F e) ∧ aT e = nI (T e) ∧ bT e = cd_cv (T e) ∧ aE e = bE e) ∧
  (∀ b, b ≤ nb → aFi b = nI (fs b)) ∧ (∀ b, b < nb → bFi b = nI (fs b))
def cr_K (ne : Nat) (bk : Nat → Nat) (aB bB : Nat → Int32) : Prop := ∀ e, e < ne → aB e = nI (bk e) ∧ bB e = nI (bk e)
/-- the paths here: their number, what an edge adds, where those of a block begin -/
def cr_PX (nb : Nat) (ki fs T m bk : Nat → Nat) (fP : Int32) (adds begins : Nat → Int32) : Prop :=
  (∃ pp, pp < 10000 ∧ fP = nI pp ∧ cp_sr pp (cp_LL nb ki fs T bk nb).length) ∧
  (∀ b, b < nb → (cp_s T bk (fs nb + 1) b = 1 → ∃ q, q < 10000 ∧ begins b = nI q ∧ cp_sr q (cp_LL nb ki fs T bk b).length) ∧ (cp_s T bk (fs nb + 1) b = 0 → begins b = -1)) ∧
  (∀ b j, b < nb → m b = 2 → j < cg_ex (ki b) → ∃ a, a < 10000 ∧ adds (fs b + j) = nI a ∧ cp_sr a (cp_fl (fun i => cp_LE ki fs T bk (fs b + i)) j).length)
/-- the paths there: written down -/
def cr_RW (L : List (List Nat)) (n : Nat) (row len : Nat → Int32) : Prop :=
  ∀ p, p < n → ∃ π, L[p]? = some π ∧ π.length ≤ 12 ∧ len p = nI π.length ∧ ∀ i x, π[i]? = some x → row (12 * p + i) = nI x
def cr_PY (L : List (List Nat)) (gP gM : Int32) (row len : Nat → Int32) : Prop :=
  (gM = 0 ∧ L.length ≤ 300 ∧ gP = nI L.length ∧ cr_RW L L.length row len) ∨ (gM = 1 ∧ 300 < L.length ∧ gP = nI 300)
/-- the tree, on both sides; the probes -/
def cr_nt (tr : Nat → Nat) (n : Nat) : Nat := cs_n n (fun e => 1 - tr e)
def cr_T (ne : Nat) (F T tr : Nat → Nat) (fPr : Int32) (inT probes bT : Nat → Int32) : Prop :=
  (∀ e, e < ne → tr e ≤ 1 ∧ inT e = nI (tr e) ∧ bT e = nI (tr e) ∧ (tr e = 1 → F e ≠ T e)) ∧
  (∀ U : Nat → Prop, (∀ e, e < ne → U e → tr e = 1) → (∃ e, e < ne ∧ U e) → ∃ p e, e < ne ∧ U e ∧ ct_ic F T e p ∧ ∀ e', e' < ne → U e' → ct_ic F T e' p → e' = e) ∧
  fPr = nI (cr_nt tr ne) ∧ (∀ e, e < ne → tr e = 0 → probes (cr_nt tr e) = nI e) ∧ tr (ne - 1) = 1
/-- a slot's counters, read out of the arrays -/
def cr_S (nb : Nat) (ki fs F T bk tr : Nat → Nat) (s : Nat) (hits cuts gone runs bg bd bw bc : Nat → Int32) : Prop :=
  cf_CS nb ki fs F T bk tr (fun e => hits (37 * s + e)) (fun b => cuts (12 * s + b)) (fun p => gone (300 * s + p)) (runs s) (fun e => bg (37 * s + e)) (fun b => bd (12 * s + b)) (fun p => bw (300 * s + p)) (bc s)
def cr_B (nb : Nat) (ki fs F T bk m rk tr : Nat → Nat) (u : SX) (v : SY) : Prop := match u with
  | (f_drafted, f_blocks, f_edges, f_probed, f_paths, f_fresh, f_x, f_y, f_steps, a_op, a_with, a_kind, a_target, a_from, a_to, a_exit, a_weights, a_inTree, a_back, a_first, a_probes, a_joined, a_order, a_ahead, a_met, a_way, a_ways, a_adds, a_begins, a_hits, a_cuts, a_gone, a_runs, a_version, a_counts, a_known) => match v with
    | (g_made, g_blocks, g_edges, g_paths, g_many, g_lastX, g_lastY, g_lastBlocks, b_op, b_number, b_kind, b_target, b_from, b_to, b_exit, b_weight, b_firstEdge, b_tree, b_back, b_row, b_length, b_gone, b_done, b_went, b_cut, b_kept, b_mark, b_way, b_tried, b_stack) =>
      cr_E nb ki fs F T f_blocks f_edges g_blocks g_edges a_kind a_from a_to a_exit a_first b_from b_to b_exit b_firstEdge ∧
      cr_K (fs nb + 1) bk a_back b_back ∧ cg_DF nb ki fs T m bk rk ∧ cr_PX nb ki fs T m bk f_paths a_adds a_begins ∧ cr_PY (cp_LL nb ki fs T bk nb) g_paths g_many b_row b_length ∧
      (∀ e, e < fs nb + 1 → a_weights e = b_weight e) ∧ cr_T (fs nb + 1) F T tr f_probed a_inTree a_probes b_tree ∧
      cr_S nb ki fs F T bk tr 0 a_hits a_cuts a_gone a_runs b_gone b_done b_went b_cut ∧
      (∀ d, d < 2 → (b_kept d = 0 ∧ a_version (d + 1) ≠ a_version 0) ∨ (b_kept d = 1 ∧ a_version (d + 1) = a_version 0 ∧ cr_S nb ki fs F T bk tr (d + 1) a_hits a_cuts a_gone a_runs b_gone b_done b_went b_cut)) ∧
      (f_fresh = 0 ∨ (f_fresh = 1 ∧ ∀ e, e < fs nb + 1 → a_counts e = b_gone e))
/-- the relation -/
def i_Rel (k : Nat) (u : SX) (v : SY) : Prop := match u with
  | (f_drafted, f_blocks, f_edges, f_probed, f_paths, f_fresh, f_x, f_y, f_steps, a_op, a_with, a_kind, a_target, a_from, a_to, a_exit, a_weights, a_inTree, a_back, a_first, a_probes, a_joined, a_order, a_ahead, a_met, a_way, a_ways, a_adds, a_begins, a_hits, a_cuts, a_gone, a_runs, a_version, a_counts, a_known) => match v with
    | (g_made, g_blocks, g_edges, g_paths, g_many, g_lastX, g_lastY, g_lastBlocks, b_op, b_number, b_kind, b_target, b_from, b_to, b_exit, b_weight, b_firstEdge, b_tree, b_back, b_row, b_length, b_gone, b_done, b_went, b_cut, b_kept, b_mark, b_way, b_tried, b_stack) =>
      (∃ dr, f_drafted = nI dr ∧ g_made = nI dr ∧ cr_D dr a_op a_kind a_target b_target) ∧
      (a_op = b_op ∧ a_with = b_number ∧ a_kind = b_kind) ∧ (f_x = g_lastX ∧ f_y = g_lastY ∧ f_steps = g_lastBlocks) ∧ cr_V k a_version ∧
      ((f_blocks = 0 ∧ f_edges = 0 ∧ f_probed = 0 ∧ g_blocks = 0 ∧ g_edges = 0 ∧ b_kept 0 = 0 ∧ b_kept 1 = 0) ∨ (∃ nb ki fs F T bk m rk tr, cr_B nb ki fs F T bk m rk tr (f_drafted, f_blocks, f_edges, f_probed, f_paths, f_fresh, f_x, f_y, f_steps, a_op, a_with, a_kind, a_target, a_from, a_to, a_exit, a_weights, a_inTree, a_back, a_first, a_probes, a_joined, a_order, a_ahead, a_met, a_way, a_ways, a_adds, a_begins, a_hits, a_cuts, a_gone, a_runs, a_version, a_counts, a_known) (g_made, g_blocks, g_edges, g_paths, g_many, g_lastX, g_lastY, g_lastBlocks, b_op, b_number, b_kind, b_target, b_from, b_to, b_exit, b_weight, b_firstEdge, b_tree, b_back, b_row, b_length, b_gone, b_done, b_went, b_cut, b_kept, b_mark, b_way, b_tried, b_stack)))
theorem i_up {k : Nat} {u : SX} {v : SY} (h : i_Rel k u v) : i_Rel (k + 6) u v := by
  obtain ⟨h1, h2, h3, ⟨vv, h4, h5⟩, h6⟩ := h
  exact ⟨h1, h2, h3, ⟨vv, by omega, h5⟩, h6⟩
/-- any two states, by their names -/
theorem cr_el {P : SX → SY → Prop} (h : ∀ (f_drafted f_blocks f_edges f_probed f_paths f_fresh f_x f_y f_steps : Int32) (a_op a_with a_kind a_target a_from a_to a_exit a_weights a_inTree a_back a_first a_probes a_joined a_order a_ahead a_met a_way a_ways a_adds a_begins a_hits a_cuts a_gone a_runs a_version a_counts a_known : Nat → Int32) (g_made g_blocks g_edges g_paths g_many g_lastX g_lastY g_lastBlocks : Int32) (b_op b_number b_kind b_target b_from b_to b_exit b_weight b_firstEdge b_tree b_back b_row b_length b_gone b_done b_went b_cut b_kept b_mark b_way b_tried b_stack : Nat → Int32), P (f_drafted, f_blocks, f_edges, f_probed, f_paths, f_fresh, f_x, f_y, f_steps, a_op, a_with, a_kind, a_target, a_from, a_to, a_exit, a_weights, a_inTree, a_back, a_first, a_probes, a_joined, a_order, a_ahead, a_met, a_way, a_ways, a_adds, a_begins, a_hits, a_cuts, a_gone, a_runs, a_version, a_counts, a_known) (g_made, g_blocks, g_edges, g_paths, g_many, g_lastX, g_lastY, g_lastBlocks, b_op, b_number, b_kind, b_target, b_from, b_to, b_exit, b_weight, b_firstEdge, b_tree, b_back, b_row, b_length, b_gone, b_done, b_went, b_cut, b_kept, b_mark, b_way, b_tried, b_stack)) (u : SX) (v : SY) : P u v :=
  h u.1 u.2.1 u.2.2.1 u.2.2.2.1 u.2.2.2.2.1 u.2.2.2.2.2.1 u.2.2.2.2.2.2.1 u.2.2.2.2.2.2.2.1 u.2.2.2.2.2.2.2.2.1 u.2.2.2.2.2.2.2.2.2.1 u.2.2.2.2.2.2.2.2.2.2.1 u.2.2.2.2.2.2.2.2.2.2.2.1 u.2.2.2.2.2.2.2.2.2.2.2.2.1 u.2.2.2.2.2.2.2.2.2.2.2.2.2.1 u.2.2.2.2.2.2.2.2.2.2.2.2.2.2.1 u.2.2.2.2.2.2.2.2.2.2.2.2.2.2.2.1 u.2.2.2.2.2.2.2.2.2.2.2.2.2.2.2.2.1 u.2.2.2.2.2.2.2.2.2.2.2.2.2.2.2.2.2.1 u.2.2.2.2.2.2.2.2.2.2.2.2.2.2.2.2.2.2.1 u.2.2.2.2.2.2.2.2.2.2.2.2.2.2.2.2.2.2.2.1 u.2.2.2.2.2.2.2.2.2.2.2.2.2.2.2.2.2.2.2.2.1 u.2.2.2.2.2.2.2.2.2.2.2.2.2.2.2.2.2.2.2.2.2.1 u.2.2.2.2.2.2.2.2.2.2.2.2.2.2.2.2.2.2.2.2.2.2.1 u.2.2.2.2.2.2.2.2.2.2.2.2.2.2.2.2.2.2.2.2.2.2.2.1 u.2.2.2.2.2.2.2.2.2.2.2.2.2.2.2.2.2.2.2.2.2.2.2.2.1 u.2.2.2.2.2.2.2.2.2.2.2.2.2.2.2.2.2.2.2.2.2.2.2.2.2.1 u.2.2.2.2.2.2.2.2.2.2.2.2.2.2.2.2.2.2.2.2.2.2.2.2.2.2.1 u.2.2.2.2.2.2.2.2.2.2.2.2.2.2.2.2.2.2.2.2.2.2.2.2.2.2.2.1 u.2.2.2.2.2.2.2.2.2.2.2.2.2.2.2.2.2.2.2.2.2.2.2.2.2.2.2.2.1 u.2.2.2.2.2.2.2.2.2.2.2.2.2.2.2.2.2.2.2.2.2.2.2.2.2.2.2.2.2.1 u.2.2.2.2.2.2.2.2.2.2.2.2.2.2.2.2.2.2.2.2.2.2.2.2.2.2.2.2.2.2.1 u.2.2.2.2.2.2.2.2.2.2.2.2.2.2.2.2.2.2.2.2.2.2.2.2.2.2.2.2.2.2.2.1 u.2.2.2.2.2.2.2.2.2.2.2.2.2.2.2.2.2.2.2.2.2.2.2.2.2.2.2.2.2.2.2.2.1 u.2.2.2.2.2.2.2.2.2.2.2.2.2.2.2.2.2.2.2.2.2.2.2.2.2.2.2.2.2.2.2.2.2.1 u.2.2.2.2.2.2.2.2.2.2.2.2.2.2.2.2.2.2.2.2.2.2.2.2.2.2.2.2.2.2.2.2.2.2.1 u.2.2.2.2.2.2.2.2.2.2.2.2.2.2.2.2.2.2.2.2.2.2.2.2.2.2.2.2.2.2.2.2.2.2.2 v.1 v.2.1 v.2.2.1 v.2.2.2.1 v.2.2.2.2.1 v.2.2.2.2.2.1 v.2.2.2.2.2.2.1 v.2.2.2.2.2.2.2.1 v.2.2.2.2.2.2.2.2.1 v.2.2.2.2.2.2.2.2.2.1 v.2.2.2.2.2.2.2.2.2.2.1 v.2.2.2.2.2.2.2.2.2.2.2.1 v.2.2.2.2.2.2.2.2.2.2.2.2.1 v.2.2.2.2.2.2.2.2.2.2.2.2.2.1 v.2.2.2.2.2.2.2.2.2.2.2.2.2.2.1 v.2.2.2.2.2.2.2.2.2.2.2.2.2.2.2.1 v.2.2.2.2.2.2.2.2.2.2.2.2.2.2.2.2.1 v.2.2.2.2.2.2.2.2.2.2.2.2.2.2.2.2.2.1 v.2.2.2.2.2.2.2.2.2.2.2.2.2.2.2.2.2.2.1 v.2.2.2.2.2.2.2.2.2.2.2.2.2.2.2.2.2.2.2.1 v.2.2.2.2.2.2.2.2.2.2.2.2.2.2.2.2.2.2.2.2.1 v.2.2.2.2.2.2.2.2.2.2.2.2.2.2.2.2.2.2.2.2.2.1 v.2.2.2.2.2.2.2.2.2.2.2.2.2.2.2.2.2.2.2.2.2.2.1 v.2.2.2.2.2.2.2.2.2.2.2.2.2.2.2.2.2.2.2.2.2.2.2.1 v.2.2.2.2.2.2.2.2.2.2.2.2.2.2.2.2.2.2.2.2.2.2.2.2.1 v.2.2.2.2.2.2.2.2.2.2.2.2.2.2.2.2.2.2.2.2.2.2.2.2.2.1 v.2.2.2.2.2.2.2.2.2.2.2.2.2.2.2.2.2.2.2.2.2.2.2.2.2.2.1 v.2.2.2.2.2.2.2.2.2.2.2.2.2.2.2.2.2.2.2.2.2.2.2.2.2.2.2.1 v.2.2.2.2.2.2.2.2.2.2.2.2.2.2.2.2.2.2.2.2.2.2.2.2.2.2.2.2.1 v.2.2.2.2.2.2.2.2.2.2.2.2.2.2.2.2.2.2.2.2.2.2.2.2.2.2.2.2.2
end
section
/-! in, exitsOf, loops that fill an array -/
theorem cw_pM {n : Nat} (hn : n < 2 ^ 31) : (nI n - 1).toInt = (n : Int) - 1 := by
  cases n with
  | zero => decide
  | succ n => rw [nI_pred, nI_toInt (by omega)]; omega
theorem cw_in (x : Int32) (n : Nat) (hn : n < 2 ^ 31) {M : Int32} (hM : M.toInt = (n : Int) - 1) :
    (∃ j, j < n ∧ x = nI j ∧ (∀ post : Int32 → Prop, post 1 → wpX_in post x (nI n)) ∧ (∀ post : Int32 → Prop, post 1 → wpY_in post x 0 M)) ∨
    ((∀ j, j < n → x ≠ nI j) ∧ (∀ post : Int32 → Prop, post 0 → wpX_in post x (nI n)) ∧ (∀ post : Int32 → Prop, post 0 → wpY_in post x 0 M)) := by
  by_cases h : x < 0
  · exact Or.inr ⟨fun j hj e => by subst e; exact nI_pos (by omega) h, fun post hp => br_t h hp, fun post hp => br_t h hp⟩
  · obtain ⟨j, hj, rfl⟩ := nI_of h
    by_cases hjn : j < n
    · refine Or.inl ⟨j, hjn, rfl, fun post hp => br_f h (br_f (nI_ge hjn hn) hp), fun post hp => br_f h (br_f ?_ hp)⟩
      rw [Int32.lt_iff_toInt_lt, hM, nI_toInt hj]; omega
    · refine Or.inr ⟨fun i hi e => hjn ?_, fun post hp => br_f h (br_t (nI_le (by omega) hj) hp), fun post hp => br_f h (br_t ?_ hp)⟩
      · rw [cd_im e hj (by omega)]; exact hi
      · rw [Int32.lt_iff_toInt_lt, hM, nI_toInt hj]; omega
theorem cw_exX {k : Nat} (hk : k ≤ 5) (post : Int32 → Prop) (h : post (nI (cg_ex k))) : wpX_exitsOf post (nI k) := by
  refine pk_le 2 k (fun h2 => pk_le 5 k (fun h5 => ?_) (fun h5 => ?_)) (fun h2 => ?_)
  · unfold cg_ex at h; rw [if_neg (by omega), if_neg (by omega)] at h; exact h
  · unfold cg_ex at h; rw [if_neg (by omega), if_pos (by omega)] at h; exact h
  · unfold cg_ex at h; rw [if_pos (by omega)] at h; exact h
theorem cw_exY {k : Nat} (hk : k ≤ 5) (post : Int32 → Prop) (h : post (nI (cg_ex k))) : wpY_exitsOf post (nI k) := by
  refine pk_le 2 k (fun h2 => pk_le 5 k (fun h5 => ?_) (fun h5 => ?_)) (fun h2 => ?_)
  · unfold cg_ex at h; rw [if_neg (by omega), if_neg (by omega)] at h; exact h
  · unfold cg_ex at h; rw [if_neg (by omega), if_pos (by omega)] at h; exact h
  · unfold cg_ex at h; rw [if_pos (by omega)] at h; exact h
/-- places t j of an array get v a j, for j, j+1, .. -/
def cw_f (t : Nat → Nat) (v : (Nat → Int32) → Nat → Int32) : Nat → Nat → (Nat → Int32) → Nat → Int32
  | 0, _, a => a
  | d + 1, j, a => cw_f t v d (j + 1) (upd a (t j) (v a j))
theorem cw_fl {W : Nat → Int32 → (Nat → Int32) → Prop} {Q : (Nat → Int32) → Prop} (t : Nat → Nat) (v : (Nat → Int32) → Nat → Int32) (N : Nat)
    (hx : ∀ n a, Q a → W (n + 1) (nI N) a) (hs : ∀ n j a, j < N → W n (nI (j + 1)) (upd a (t j) (v a j)) → W (n + 1) (nI j) a) :
    ∀ d j a, j + d = N → Q (cw_f t v d j a) → W (d + 1) (nI j) a := by
  intro d
  induction d with
  | zero => intro j a h hQ; have e : j = N := by omega
            subst e; exact hx 0 a hQ
  | succ d ih => intro j a h hQ; exact hs (d + 1) j a (by omega) (ih (j + 1) _ (by omega) hQ)
theorem cw_fs {t : Nat → Nat} {v : (Nat → Int32) → Nat → Int32} {N : Nat} (hi : ∀ i j, i < N → j < N → i ≠ j → t i ≠ t j)
    (hv : ∀ a x i j, i < N → j < N → i ≠ j → v (upd a (t i) x) j = v a j) :
    ∀ d j a, j + d = N → (∀ i, i < N → j ≤ i → cw_f t v d j a (t i) = v a i) ∧ (∀ p, (∀ i, j ≤ i → i < N → p ≠ t i) → cw_f t v d j a p = a p) := by
  intro d
  induction d with
  | zero => intro j a h; exact ⟨fun i h1 h2 => by omega, fun p _ => rfl⟩
  | succ d ih =>
    intro j a h
    obtain ⟨h1, h2⟩ := ih (j + 1) (upd a (t j) (v a j)) (by omega)
    refine ⟨fun i hiN hij => ?_, fun p hp => ?_⟩
    · show cw_f t v d (j + 1) _ (t i) = _
      by_cases e : i = j
      · subst e
        rw [h2 (t i) (fun i' h1' h2' => hi i i' hiN h2' (by omega)), pk_us]
      · rw [h1 i hiN (by omega), hv a _ j i (by omega) hiN (Ne.symm e)]
    · show cw_f t v d (j + 1) _ p = _
      rw [h2 p (fun i a1 a2 => hp i (by omega) a2), pk_un (hp j (by omega) (by omega))]
/-- filled from 0: places below N get x, the others stay -/
theorem cw_f0 (x : Int32) (N : Nat) (a : Nat → Int32) : (∀ i, i < N → cw_f (fun j => j) (fun _ _ => x) N 0 a i = x) ∧ (∀ i, N ≤ i → cw_f (fun j => j) (fun _ _ => x) N 0 a i = a i) := by
  obtain ⟨h1, h2⟩ := cw_fs (t := fun j => j) (v := fun _ _ => x) (N := N) (fun i j _ _ h => h) (fun _ _ _ _ _ _ _ => rfl) N 0 a (by omega)
  exact ⟨fun i hi => h1 i hi (by omega), fun i hi => h2 i (fun j _ hj e => by omega)⟩
section
variable {f_drafted f_blocks f_edges f_probed f_paths f_fresh f_x f_y f_steps : Int32} {a_op a_with a_kind a_target a_from a_to a_exit a_weights a_inTree a_back a_first a_probes a_joined a_order a_ahead a_met a_way a_ways a_adds a_begins a_hits a_cuts a_gone a_runs a_version a_counts a_known : Nat → Int32}
theorem cw_zero : ∃ h c w : Nat → Int32, (∀ i, i < 37 → h i = 0) ∧ (∀ i, 37 ≤ i → h i = a_hits i) ∧ (∀ i, i < 12 → c i = 0) ∧ (∀ i, 12 ≤ i → c i = a_cuts i) ∧ (∀ i, i < 300 → w i = 0) ∧ (∀ i, 300 ≤ i → w i = a_gone i) ∧
    ∀ post : SX → Prop, post (f_drafted, f_blocks, f_edges, f_probed, f_paths, 0, f_x, f_y, f_steps, a_op, a_with, a_kind, a_target, a_from, a_to, a_exit, a_weights, a_inTree, a_back, a_first, a_probes, a_joined, a_order, a_ahead, a_met, a_way, a_ways, a_adds, a_begins, h, c, w, upd a_runs 0 0, a_version, a_counts, a_known) → wpX_zero post (f_drafted, f_blocks, f_edges, f_probed, f_paths, f_fresh, f_x, f_y, f_steps, a_op, a_with, a_kind, a_target, a_from, a_to, a_exit, a_weights, a_inTree, a_back, a_first, a_probes, a_joined, a_order, a_ahead, a_met, a_way, a_ways, a_adds, a_begins, a_hits, a_cuts, a_gone, a_runs, a_version, a_counts, a_known) := by
  refine ⟨_, _, _, (cw_f0 0 37 a_hits).1, (cw_f0 0 37 a_hits).2, (cw_f0 0 12 a_cuts).1, (cw_f0 0 12 a_cuts).2, (cw_f0 0 300 a_gone).1, (cw_f0 0 300 a_gone).2, fun post hp => ?_⟩
  refine Exists.intro 38 (cw_fl (W := fun n x a => wX_zero_2 post f_drafted f_blocks f_edges f_probed f_paths f_fresh f_x f_y f_steps n x a_op a_with a_kind a_target a_from a_to a_exit a_weights a_inTree a_back a_first a_probes a_joined a_order a_ahead a_met a_way a_ways a_adds a_begins a a_cuts a_gone a_runs a_version a_counts a_known) (Q := fun a => ∃ n23 : Nat, wX_zero_23 post f_drafted f_blocks f_edges f_probed f_paths f_fresh f_x f_y f_steps n23 0 a_op a_with a_kind a_target a_from a_to a_exit a_weights a_inTree a_back a_first a_probes a_joined a_order a_ahead a_met a_way a_ways a_adds a_begins a a_cuts a_gone a_runs a_version a_counts a_known) (fun j => j) (fun _ _ => 0) 37 ?_ ?_ 37 0 a_hits (by omega) ?_)
  · intro n a hQ; exact br_t (nI_le (a := 37) (Nat.le_refl _) (by omega)) hQ
  · intro n j a hj h; exact br_f (nI_ge (b := 37) hj (by omega)) ⟨vp_in_nI (by omega) (by omega), nm_r (cd_up rfl (by omega) rfl) (nm_r (nI_1 j) h)⟩
  refine Exists.intro 13 (cw_fl (W := fun n x a => wX_zero_23 post f_drafted f_blocks f_edges f_probed f_paths f_fresh f_x f_y f_steps n x a_op a_with a_kind a_target a_from a_to a_exit a_weights a_inTree a_back a_first a_probes a_joined a_order a_ahead a_met a_way a_ways a_adds a_begins ((cw_f (fun j => j) (fun _ _ => 0) 37 0 a_hits)) a a_gone a_runs a_version a_counts a_known) (Q := fun a => ∃ n44 : Nat, wX_zero_44 post f_drafted f_blocks f_edges f_probed f_paths f_fresh f_x f_y f_steps n44 0 a_op a_with a_kind a_target a_from a_to a_exit a_weights a_inTree a_back a_first a_probes a_joined a_order a_ahead a_met a_way a_ways a_adds a_begins ((cw_f (fun j => j) (fun _ _ => 0) 37 0 a_hits)) a a_gone a_runs a_version a_counts a_known) (fun j => j) (fun _ _ => 0) 12 ?_ ?_ 12 0 a_cuts (by omega) ?_)
  · intro n a hQ; exact br_t (nI_le (a := 12) (Nat.le_refl _) (by omega)) hQ
  · intro n j a hj h; exact br_f (nI_ge (b := 12) hj (by omega)) ⟨vp_in_nI (by omega) (by omega), nm_r (cd_up rfl (by omega) rfl) (nm_r (nI_1 j) h)⟩
  refine Exists.intro 301 (cw_fl (W := fun n x a => wX_zero_44 post f_drafted f_blocks f_edges f_probed f_paths f_fresh f_x f_y f_steps n x a_op a_with a_kind a_target a_from a_to a_exit a_weights a_inTree a_back a_first a_probes a_joined a_order a_ahead a_met a_way a_ways a_adds a_begins ((cw_f (fun j => j) (fun _ _ => 0) 37 0 a_hits)) ((cw_f (fun j => j) (fun _ _ => 0) 12 0 a_cuts)) a a_runs a_version a_counts a_known) (Q := fun a => post (f_drafted, f_blocks, f_edges, f_probed, f_paths, 0, f_x, f_y, f_steps, a_op, a_with, a_kind, a_target, a_from, a_to, a_exit, a_weights, a_inTree, a_back, a_first, a_probes, a_joined, a_order, a_ahead, a_met, a_way, a_ways, a_adds, a_begins, (cw_f (fun j => j) (fun _ _ => 0) 37 0 a_hits), (cw_f (fun j => j) (fun _ _ => 0) 12 0 a_cuts), a, upd a_runs 0 0, a_version, a_counts, a_known)) (fun j => j) (fun _ _ => 0) 300 ?_ ?_ 300 0 a_gone (by omega) hp)
  · intro n a hQ; exact br_t (nI_le (a := 300) (Nat.le_refl _) (by omega)) (nm_e hQ)
  · intro n j a hj h; exact br_f (nI_ge (b := 300) hj (by omega)) ⟨vp_in_nI (by omega) (by omega), nm_r (cd_up rfl (by omega) rfl) (nm_r (nI_1 j) h)⟩
end
section
variable {g_made g_blocks g_edges g_paths g_many g_lastX g_lastY g_lastBlocks : Int32} {b_op b_number b_kind b_target b_from b_to b_exit b_weight b_firstEdge b_tree b_back b_row b_length b_gone b_done b_went b_cut b_kept b_mark b_way b_tried b_stack : Nat → Int32}
theorem cw_empty : ∃ h c w : Nat → Int32, (∀ i, i < 37 → h i = 0) ∧ (∀ i, 37 ≤ i → h i = b_gone i) ∧ (∀ i, i < 12 → c i = 0) ∧ (∀ i, 12 ≤ i → c i = b_done i) ∧ (∀ i, i < 300 → w i = 0) ∧ (∀ i, 300 ≤ i → w i = b_went i) ∧
    ∀ post : SY → Prop, post (g_made, g_blocks, g_edges, g_paths, g_many, g_lastX, g_lastY, g_lastBlocks, b_op, b_number, b_kind, b_target, b_from, b_to, b_exit, b_weight, b_firstEdge, b_tree, b_back, b_row, b_length, h, c, w, upd b_cut 0 0, b_kept, b_mark, b_way, b_tried, b_stack) → wpY_empty post (g_made, g_blocks, g_edges, g_paths, g_many, g_lastX, g_lastY, g_lastBlocks, b_op, b_number, b_kind, b_target, b_from, b_to, b_exit, b_weight, b_firstEdge, b_tree, b_back, b_row, b_length, b_gone, b_done, b_went, b_cut, b_kept, b_mark, b_way, b_tried, b_stack) := by
  refine ⟨_, _, _, (cw_f0 0 37 b_gone).1, (cw_f0 0 37 b_gone).2, (cw_f0 0 12 b_done).1, (cw_f0 0 12 b_done).2, (cw_f0 0 300 b_went).1, (cw_f0 0 300 b_went).2, fun post hp => ?_⟩
  refine Exists.intro 38 (cw_fl (W := fun n x a => wY_empty_2 post g_made g_blocks g_edges g_paths g_many g_lastX g_lastY g_lastBlocks n x b_op b_number b_kind b_target b_from b_to b_exit b_weight b_firstEdge b_tree b_back b_row b_length a b_done b_went b_cut b_kept b_mark b_way b_tried b_stack) (Q := fun a => ∃ n23 : Nat, wY_empty_23 post g_made g_blocks g_edges g_paths g_many g_lastX g_lastY g_lastBlocks n23 0 b_op b_number b_kind b_target b_from b_to b_exit b_weight b_firstEdge b_tree b_back b_row b_length a b_done b_went b_cut b_kept b_mark b_way b_tried b_stack) (fun j => j) (fun _ _ => 0) 37 ?_ ?_ 37 0 b_gone (by omega) ?_)
  · intro n a hQ; exact br_t (nI_le (a := 37) (Nat.le_refl _) (by omega)) hQ
  · intro n j a hj h; exact br_f (nI_ge (b := 37) hj (by omega)) ⟨vp_in_nI (by omega) (by omega), nm_r (cd_up rfl (by omega) rfl) (nm_r (nI_1 j) h)⟩
  refine Exists.intro 13 (cw_fl (W := fun n x a => wY_empty_23 post g_made g_blocks g_edges g_paths g_many g_lastX g_lastY g_lastBlocks n x b_op b_number b_kind b_target b_from b_to b_exit b_weight b_firstEdge b_tree b_back b_row b_length ((cw_f (fun j => j) (fun _ _ => 0) 37 0 b_gone)) a b_went b_cut b_kept b_mark b_way b_tried b_stack) (Q := fun a => ∃ n44 : Nat, wY_empty_44 post g_made g_blocks g_edges g_paths g_many g_lastX g_lastY g_lastBlocks n44 0 b_op b_number b_kind b_target b_from b_to b_exit b_weight b_firstEdge b_tree b_back b_row b_length ((cw_f (fun j => j) (fun _ _ => 0) 37 0 b_gone)) a b_went b_cut b_kept b_mark b_way b_tried b_stack) (fun j => j) (fun _ _ => 0) 12 ?_ ?_ 12 0 b_done (by omega) ?_)
  · intro n a hQ; exact br_t (nI_le (a := 12) (Nat.le_refl _) (by omega)) hQ
  · intro n j a hj h; exact br_f (nI_ge (b := 12) hj (by omega)) ⟨vp_in_nI (by omega) (by omega), nm_r (cd_up rfl (by omega) rfl) (nm_r (nI_1 j) h)⟩
  refine Exists.intro 301 (cw_fl (W := fun n x a => wY_empty_44 post g_made g_blocks g_edges g_paths g_many g_lastX g_lastY g_lastBlocks n x b_op b_number b_kind b_target b_from b_to b_exit b_weight b_firstEdge b_tree b_back b_row b_length ((cw_f (fun j => j) (fun _ _ => 0) 37 0 b_gone)) ((cw_f (fun j => j) (fun _ _ => 0) 12 0 b_done)) a b_cut b_kept b_mark b_way b_tried b_stack) (Q := fun a => post (g_made, g_blocks, g_edges, g_paths, g_many, g_lastX, g_lastY, g_lastBlocks, b_op, b_number, b_kind, b_target, b_from, b_to, b_exit, b_weight, b_firstEdge, b_tree, b_back, b_row, b_length, (cw_f (fun j => j) (fun _ _ => 0) 37 0 b_gone), (cw_f (fun j => j) (fun _ _ => 0) 12 0 b_done), a, upd b_cut 0 0, b_kept, b_mark, b_way, b_tried, b_stack)) (fun j => j) (fun _ _ => 0) 300 ?_ ?_ 300 0 b_went (by omega) hp)
  · intro n a hQ; exact br_t (nI_le (a := 300) (Nat.le_refl _) (by omega)) (nm_e hQ)
  · intro n j a hj h; exact br_f (nI_ge (b := 300) hj (by omega)) ⟨vp_in_nI (by omega) (by omega), nm_r (cd_up rfl (by omega) rfl) (nm_r (nI_1 j) h)⟩
end
end
section
/-! copies of counters between slots -/
theorem cw_ix (k A j : Nat) : nI k * nI A + nI j = nI (k * A + j) := by rw [pk_mul, nI_add]
theorem cw_iy (k A j : Nat) : nI k + nI k * nI A + nI j = nI (k + k * A + j) := by rw [pk_mul, nI_add, nI_add]
/-- slot B of an array gets slot A, or slot A and slot B -/
theorem cw_cp {K A B : Nat} (hAB : A ≠ B) (a : Nat → Int32) :
    (∀ i, i < K → cw_f (fun j => K * B + j) (fun a j => a (K * A + j) + 0) K 0 a (K * B + i) = a (K * A + i)) ∧ (∀ i, i < K * B ∨ K * B + K ≤ i → cw_f (fun j => K * B + j) (fun a j => a (K * A + j) + 0) K 0 a i = a i) := by
  have hd : ∀ i j, i < K → j < K → K * A + j ≠ K * B + i := by
    intro i j hi hj e
    rcases Nat.lt_or_gt_of_ne hAB with h | h
    · have := Nat.mul_le_mul_left K (show A + 1 ≤ B from h)
      rw [Nat.mul_add] at this; omega
    · have := Nat.mul_le_mul_left K (show B + 1 ≤ A from h)
      rw [Nat.mul_add] at this; omega
  obtain ⟨h1, h2⟩ := cw_fs (t := fun j => K * B + j) (v := fun a j => a (K * A + j) + 0) (N := K) (fun i j _ _ h => by omega) (fun a x i j hi hj _ => by rw [pk_un (hd i j hi hj)]) K 0 a (by omega)
  refine ⟨fun i hi => ?_, fun i hi => h2 i (fun j _ hj => by omega)⟩
  have := h1 i hi (by omega)
  rw [this]; exact Int32.add_zero _
theorem cw_ca {K A B : Nat} (hAB : A ≠ B) (a : Nat → Int32) :
    (∀ i, i < K → cw_f (fun j => K * B + j) (fun a j => a (K * A + j) + a (K * B + j)) K 0 a (K * B + i) = a (K * A + i) + a (K * B + i)) ∧ (∀ i, i < K * B ∨ K * B + K ≤ i → cw_f (fun j => K * B + j) (fun a j => a (K * A + j) + a (K * B + j)) K 0 a i = a i) := by
  have hd : ∀ i j, i < K → j < K → K * A + j ≠ K * B + i := by
    intro i j hi hj e
    rcases Nat.lt_or_gt_of_ne hAB with h | h
    · have := Nat.mul_le_mul_left K (show A + 1 ≤ B from h)
      rw [Nat.mul_add] at this; omega
    · have := Nat.mul_le_mul_left K (show B + 1 ≤ A from h)
      rw [Nat.mul_add] at this; omega
  obtain ⟨h1, h2⟩ := cw_fs (t := fun j => K * B + j) (v := fun a j => a (K * A + j) + a (K * B + j)) (N := K) (fun i j _ _ h => by omega) (fun a x i j hi hj hn => by rw [pk_un (hd i j hi hj), pk_un (by omega)]) K 0 a (by omega)
  exact ⟨fun i hi => h1 i hi (by omega), fun i hi => h2 i (fun j _ hj => by omega)⟩
section
variable {f_drafted f_blocks f_edges f_probed f_paths f_fresh f_x f_y f_steps : Int32} {a_op a_with a_kind a_target a_from a_to a_exit a_weights a_inTree a_back a_first a_probes a_joined a_order a_ahead a_met a_way a_ways a_adds a_begins a_hits a_cuts a_gone a_runs a_version a_counts a_known : Nat → Int32}
theorem cw_br0 {A B : Nat} (hAB : A ≠ B) (hA : A < 3) (hB : B < 3) {x1 x2 : Int32} (e1 : x1 = nI A) (e2 : x2 = nI B) : ∃ h c w : Nat → Int32, ((∀ i, i < 37 → h (37 * B + i) = a_hits (37 * A + i)) ∧ (∀ i, i < 37 * B ∨ 37 * B + 37 ≤ i → h i = a_hits i)) ∧ ((∀ i, i < 12 → c (12 * B + i) = a_cuts (12 * A + i)) ∧ (∀ i, i < 12 * B ∨ 12 * B + 12 ≤ i → c i = a_cuts i)) ∧ ((∀ i, i < 300 → w (300 * B + i) = a_gone (300 * A + i)) ∧ (∀ i, i < 300 * B ∨ 300 * B + 300 ≤ i → w i = a_gone i)) ∧
    ∀ post : SX → Prop, post (f_drafted, f_blocks, f_edges, f_probed, f_paths, f_fresh, f_x, f_y, f_steps, a_op, a_with, a_kind, a_target, a_from, a_to, a_exit, a_weights, a_inTree, a_back, a_first, a_probes, a_joined, a_order, a_ahead, a_met, a_way, a_ways, a_adds, a_begins, h, c, w, upd a_runs B (a_runs A + 0), a_version, a_counts, a_known) → wpX_bring post (f_drafted, f_blocks, f_edges, f_probed, f_paths, f_fresh, f_x, f_y, f_steps, a_op, a_with, a_kind, a_target, a_from, a_to, a_exit, a_weights, a_inTree, a_back, a_first, a_probes, a_joined, a_order, a_ahead, a_met, a_way, a_ways, a_adds, a_begins, a_hits, a_cuts, a_gone, a_runs, a_version, a_counts, a_known) x1 x2 0 := by
  subst e1 e2
  refine ⟨_, _, _, cw_cp hAB a_hits, cw_cp hAB a_cuts, cw_cp hAB a_gone, fun post hp => ?_⟩
  refine Exists.intro 38 (cw_fl (W := fun n x a => wX_bring_3 post (nI A) (nI B) 0 f_drafted f_blocks f_edges f_probed f_paths f_fresh f_x f_y f_steps n x a_op a_with a_kind a_target a_from a_to a_exit a_weights a_inTree a_back a_first a_probes a_joined a_order a_ahead a_met a_way a_ways a_adds a_begins a a_cuts a_gone a_runs a_version a_counts a_known) (Q := fun a => ∃ n : Nat, wX_bring_64 post (nI A) (nI B) 0 f_drafted f_blocks f_edges f_probed f_paths f_fresh f_x f_y f_steps n 0 a_op a_with a_kind a_target a_from a_to a_exit a_weights a_inTree a_back a_first a_probes a_joined a_order a_ahead a_met a_way a_ways a_adds a_begins a a_cuts a_gone a_runs a_version a_counts a_known) (fun j => 37 * B + j) (fun a j => a (37 * A + j) + 0) 37 ?_ ?_ 37 0 a_hits (by omega) ?_)
  · intro n a hQ; exact br_t (nI_le (a := 37) (Nat.le_refl _) (by omega)) hQ
  · intro n j a hj h; exact br_f (nI_ge (b := 37) hj (by omega)) ⟨pk_in (37 * A + j) 111 (by omega) (hx := cw_ix 37 A j), br_t rfl ⟨pk_in (37 * B + j) 111 (by omega) (hx := cw_ix 37 B j), nm_r (cd_up (cw_ix 37 B j) (by omega) (congrArg (· + (0 : Int32)) (cd_rd (cw_ix 37 A j) (by omega) rfl))) (nm_r (nI_1 j) h)⟩⟩
  refine Exists.intro 13 (cw_fl (W := fun n x a => wX_bring_64 post (nI A) (nI B) 0 f_drafted f_blocks f_edges f_probed f_paths f_fresh f_x f_y f_steps n x a_op a_with a_kind a_target a_from a_to a_exit a_weights a_inTree a_back a_first a_probes a_joined a_order a_ahead a_met a_way a_ways a_adds a_begins ((cw_f (fun j => 37 * B + j) (fun a j => a (37 * A + j) + 0) 37 0 a_hits)) a a_gone a_runs a_version a_counts a_known) (Q := fun a => ∃ n : Nat, wX_bring_125 post (nI A) (nI B) 0 f_drafted f_blocks f_edges f_probed f_paths f_fresh f_x f_y f_steps n 0 a_op a_with a_kind a_target a_from a_to a_exit a_weights a_inTree a_back a_first a_probes a_joined a_order a_ahead a_met a_way a_ways a_adds a_begins ((cw_f (fun j => 37 * B + j) (fun a j => a (37 * A + j) + 0) 37 0 a_hits)) a a_gone a_runs a_version a_counts a_known) (fun j => 12 * B + j) (fun a j => a (12 * A + j) + 0) 12 ?_ ?_ 12 0 a_cuts (by omega) ?_)
  · intro n a hQ; exact br_t (nI_le (a := 12) (Nat.le_refl _) (by omega)) hQ
  · intro n j a hj h; exact br_f (nI_ge (b := 12) hj (by omega)) ⟨pk_in (12 * A + j) 36 (by omega) (hx := cw_ix 12 A j), br_t rfl ⟨pk_in (12 * B + j) 36 (by omega) (hx := cw_ix 12 B j), nm_r (cd_up (cw_ix 12 B j) (by omega) (congrArg (· + (0 : Int32)) (cd_rd (cw_ix 12 A j) (by omega) rfl))) (nm_r (nI_1 j) h)⟩⟩
  refine Exists.intro 301 (cw_fl (W := fun n x a => wX_bring_125 post (nI A) (nI B) 0 f_drafted f_blocks f_edges f_probed f_paths f_fresh f_x f_y f_steps n x a_op a_with a_kind a_target a_from a_to a_exit a_weights a_inTree a_back a_first a_probes a_joined a_order a_ahead a_met a_way a_ways a_adds a_begins ((cw_f (fun j => 37 * B + j) (fun a j => a (37 * A + j) + 0) 37 0 a_hits)) ((cw_f (fun j => 12 * B + j) (fun a j => a (12 * A + j) + 0) 12 0 a_cuts)) a a_runs a_version a_counts a_known) (Q := fun a => post (f_drafted, f_blocks, f_edges, f_probed, f_paths, f_fresh, f_x, f_y, f_steps, a_op, a_with, a_kind, a_target, a_from, a_to, a_exit, a_weights, a_inTree, a_back, a_first, a_probes, a_joined, a_order, a_ahead, a_met, a_way, a_ways, a_adds, a_begins, (cw_f (fun j => 37 * B + j) (fun a j => a (37 * A + j) + 0) 37 0 a_hits), (cw_f (fun j => 12 * B + j) (fun a j => a (12 * A + j) + 0) 12 0 a_cuts), a, upd a_runs B (a_runs A + 0), a_version, a_counts, a_known)) (fun j => 300 * B + j) (fun a j => a (300 * A + j) + 0) 300 ?_ ?_ 300 0 a_gone (by omega) hp)
  · intro n a hQ; exact br_t (nI_le (a := 300) (Nat.le_refl _) (by omega)) ⟨vp_in_nI hA (by omega), br_t rfl ⟨vp_in_nI hB (by omega), nm_r (cd_up rfl (by omega) (congrArg (· + (0 : Int32)) (cd_rd rfl (by omega) rfl))) hQ⟩⟩
  · intro n j a hj h; exact br_f (nI_ge (b := 300) hj (by omega)) ⟨pk_in (300 * A + j) 900 (by omega) (hx := cw_ix 300 A j), br_t rfl ⟨pk_in (300 * B + j) 900 (by omega) (hx := cw_ix 300 B j), nm_r (cd_up (cw_ix 300 B j) (by omega) (congrArg (· + (0 : Int32)) (cd_rd (cw_ix 300 A j) (by omega) rfl))) (nm_r (nI_1 j) h)⟩⟩
theorem cw_br1 {A B : Nat} (hAB : A ≠ B) (hA : A < 3) (hB : B < 3) {x1 x2 : Int32} (e1 : x1 = nI A) (e2 : x2 = nI B) : ∃ h c w : Nat → Int32, ((∀ i, i < 37 → h (37 * B + i) = a_hits (37 * A + i) + a_hits (37 * B + i)) ∧ (∀ i, i < 37 * B ∨ 37 * B + 37 ≤ i → h i = a_hits i)) ∧ ((∀ i, i < 12 → c (12 * B + i) = a_cuts (12 * A + i) + a_cuts (12 * B + i)) ∧ (∀ i, i < 12 * B ∨ 12 * B + 12 ≤ i → c i = a_cuts i)) ∧ ((∀ i, i < 300 → w (300 * B + i) = a_gone (300 * A + i) + a_gone (300 * B + i)) ∧ (∀ i, i < 300 * B ∨ 300 * B + 300 ≤ i → w i = a_gone i)) ∧
    ∀ post : SX → Prop, post (f_drafted, f_blocks, f_edges, f_probed, f_paths, f_fresh, f_x, f_y, f_steps, a_op, a_with, a_kind, a_target, a_from, a_to, a_exit, a_weights, a_inTree, a_back, a_first, a_probes, a_joined, a_order, a_ahead, a_met, a_way, a_ways, a_adds, a_begins, h, c, w, upd a_runs B (a_runs A + a_runs B), a_version, a_counts, a_known) → wpX_bring post (f_drafted, f_blocks, f_edges, f_probed, f_paths, f_fresh, f_x, f_y, f_steps, a_op, a_with, a_kind, a_target, a_from, a_to, a_exit, a_weights, a_inTree, a_back, a_first, a_probes, a_joined, a_order, a_ahead, a_met, a_way, a_ways, a_adds, a_begins, a_hits, a_cuts, a_gone, a_runs, a_version, a_counts, a_known) x1 x2 1 := by
  subst e1 e2
  refine ⟨_, _, _, cw_ca hAB a_hits, cw_ca hAB a_cuts, cw_ca hAB a_gone, fun post hp => ?_⟩
  refine Exists.intro 38 (cw_fl (W := fun n x a => wX_bring_3 post (nI A) (nI B) 1 f_drafted f_blocks f_edges f_probed f_paths f_fresh f_x f_y f_steps n x a_op a_with a_kind a_target a_from a_to a_exit a_weights a_inTree a_back a_first a_probes a_joined a_order a_ahead a_met a_way a_ways a_adds a_begins a a_cuts a_gone a_runs a_version a_counts a_known) (Q := fun a => ∃ n : Nat, wX_bring_64 post (nI A) (nI B) 1 f_drafted f_blocks f_edges f_probed f_paths f_fresh f_x f_y f_steps n 0 a_op a_with a_kind a_target a_from a_to a_exit a_weights a_inTree a_back a_first a_probes a_joined a_order a_ahead a_met a_way a_ways a_adds a_begins a a_cuts a_gone a_runs a_version a_counts a_known) (fun j => 37 * B + j) (fun a j => a (37 * A + j) + a (37 * B + j)) 37 ?_ ?_ 37 0 a_hits (by omega) ?_)
  · intro n a hQ; exact br_t (nI_le (a := 37) (Nat.le_refl _) (by omega)) hQ
  · intro n j a hj h; exact br_f (nI_ge (b := 37) hj (by omega)) ⟨pk_in (37 * A + j) 111 (by omega) (hx := cw_ix 37 A j), br_f (by decide) ⟨pk_in (37 * B + j) 111 (by omega) (hx := cw_ix 37 B j), ⟨pk_in (37 * B + j) 111 (by omega) (hx := cw_ix 37 B j), nm_r (cd_up (cw_ix 37 B j) (by omega) (congr (congrArg _ (cd_rd (cw_ix 37 A j) (by omega) rfl)) (cd_rd (cw_ix 37 B j) (by omega) rfl))) (nm_r (nI_1 j) h)⟩⟩⟩
  refine Exists.intro 13 (cw_fl (W := fun n x a => wX_bring_64 post (nI A) (nI B) 1 f_drafted f_blocks f_edges f_probed f_paths f_fresh f_x f_y f_steps n x a_op a_with a_kind a_target a_from a_to a_exit a_weights a_inTree a_back a_first a_probes a_joined a_order a_ahead a_met a_way a_ways a_adds a_begins ((cw_f (fun j => 37 * B + j) (fun a j => a (37 * A + j) + a (37 * B + j)) 37 0 a_hits)) a a_gone a_runs a_version a_counts a_known) (Q := fun a => ∃ n : Nat, wX_bring_125 post (nI A) (nI B) 1 f_drafted f_blocks f_edges f_probed f_paths f_fresh f_x f_y f_steps n 0 a_op a_with a_kind a_target a_from a_to a_exit a_weights a_inTree a_back a_first a_probes a_joined a_order a_ahead a_met a_way a_ways a_adds a_begins ((cw_f (fun j => 37 * B + j) (fun a j => a (37 * A + j) + a (37 * B + j)) 37 0 a_hits)) a a_gone a_runs a_version a_counts a_known) (fun j => 12 * B + j) (fun a j => a (12 * A + j) + a (12 * B + j)) 12 ?_ ?_ 12 0 a_cuts (by omega) ?_)
  · intro n a hQ; exact br_t (nI_le (a := 12) (Nat.le_refl _) (by omega)) hQ
  · intro n j a hj h; exact br_f (nI_ge (b := 12) hj (by omega)) ⟨pk_in (12 * A + j) 36 (by omega) (hx := cw_ix 12 A j), br_f (by decide) ⟨pk_in (12 * B + j) 36 (by omega) (hx := cw_ix 12 B j), ⟨pk_in (12 * B + j) 36 (by omega) (hx := cw_ix 12 B j), nm_r (cd_up (cw_ix 12 B j) (by omega) (congr (congrArg _ (cd_rd (cw_ix 12 A j) (by omega) rfl)) (cd_rd (cw_ix 12 B j) (by omega) rfl))) (nm_r (nI_1 j) h)⟩⟩⟩
  refine Exists.intro 301 (cw_fl (W := fun n x a => wX_bring_125 post (nI A) (nI B) 1 f_drafted f_blocks f_edges f_probed f_paths f_fresh f_x f_y f_steps n x a_op a_with a_kind a_target a_from a_to a_exit a_weights a_inTree a_back a_first a_probes a_joined a_order a_ahead a_met a_way a_ways a_adds a_begins ((cw_f (fun j => 37 * B + j) (fun a j => a (37 * A + j) + a (37 * B + j)) 37 0 a_hits)) ((cw_f (fun j => 12 * B + j) (fun a j => a (12 * A + j) + a (12 * B + j)) 12 0 a_cuts)) a a_runs a_version a_counts a_known) (Q := fun a => post (f_drafted, f_blocks, f_edges, f_probed, f_paths, f_fresh, f_x, f_y, f_steps, a_op, a_with, a_kind, a_target, a_from, a_to, a_exit, a_weights, a_inTree, a_back, a_first, a_probes, a_joined, a_order, a_ahead, a_met, a_way, a_ways, a_adds, a_begins, (cw_f (fun j => 37 * B + j) (fun a j => a (37 * A + j) + a (37 * B + j)) 37 0 a_hits), (cw_f (fun j => 12 * B + j) (fun a j => a (12 * A + j) + a (12 * B + j)) 12 0 a_cuts), a, upd a_runs B (a_runs A + a_runs B), a_version, a_counts, a_known)) (fun j => 300 * B + j) (fun a j => a (300 * A + j) + a (300 * B + j)) 300 ?_ ?_ 300 0 a_gone (by omega) hp)
  · intro n a hQ; exact br_t (nI_le (a := 300) (Nat.le_refl _) (by omega)) ⟨vp_in_nI hA (by omega), br_f (by decide) ⟨vp_in_nI hB (by omega), ⟨vp_in_nI hB (by omega), nm_r (cd_up rfl (by omega) (congr (congrArg _ (cd_rd rfl (by omega) rfl)) (cd_rd rfl (by omega) rfl))) hQ⟩⟩⟩
  · intro n j a hj h; exact br_f (nI_ge (b := 300) hj (by omega)) ⟨pk_in (300 * A + j) 900 (by omega) (hx := cw_ix 300 A j), br_f (by decide) ⟨pk_in (300 * B + j) 900 (by omega) (hx := cw_ix 300 B j), ⟨pk_in (300 * B + j) 900 (by omega) (hx := cw_ix 300 B j), nm_r (cd_up (cw_ix 300 B j) (by omega) (congr (congrArg _ (cd_rd (cw_ix 300 A j) (by omega) rfl)) (cd_rd (cw_ix 300 B j) (by omega) rfl))) (nm_r (nI_1 j) h)⟩⟩⟩
end
section
variable {g_made g_blocks g_edges g_paths g_many g_lastX g_lastY g_lastBlocks : Int32} {b_op b_number b_kind b_target b_from b_to b_exit b_weight b_firstEdge b_tree b_back b_row b_length b_gone b_done b_went b_cut b_kept b_mark b_way b_tried b_stack : Nat → Int32}
theorem cw_dc {K d : Nat} (a : Nat → Int32) :
    (∀ i, i < K → cw_f (fun j => K + K * d + j) (fun a j => a j) K 0 a (K + K * d + i) = a i) ∧ (∀ i, i < K + K * d ∨ K + K * d + K ≤ i → cw_f (fun j => K + K * d + j) (fun a j => a j) K 0 a i = a i) := by
  obtain ⟨h1, h2⟩ := cw_fs (t := fun j => K + K * d + j) (v := fun a j => a j) (N := K) (fun i j _ _ h => by omega) (fun a x i j hi hj _ => by rw [pk_un (by omega)]) K 0 a (by omega)
  exact ⟨fun i hi => h1 i hi (by omega), fun i hi => h2 i (fun j _ hj => by omega)⟩
theorem cw_dm {K d : Nat} (a : Nat → Int32) :
    (∀ i, i < K → cw_f (fun j => j) (fun a j => a j + a (K + K * d + j)) K 0 a i = a i + a (K + K * d + i)) ∧ (∀ i, K ≤ i → cw_f (fun j => j) (fun a j => a j + a (K + K * d + j)) K 0 a i = a i) := by
  obtain ⟨h1, h2⟩ := cw_fs (t := fun j => j) (v := fun a j => a j + a (K + K * d + j)) (N := K) (fun i j _ _ h => by omega) (fun a x i j hi hj hn => by rw [pk_un (by omega), pk_un (by omega)]) K 0 a (by omega)
  exact ⟨fun i hi => h1 i hi (by omega), fun i hi => h2 i (fun j _ hj => by omega)⟩
theorem cw_ydump {d : Nat} (hd : d < 2) : ∃ h c w : Nat → Int32, ((∀ i, i < 37 → h (37 + 37 * d + i) = b_gone i) ∧ (∀ i, i < 37 + 37 * d ∨ 37 + 37 * d + 37 ≤ i → h i = b_gone i)) ∧ ((∀ i, i < 12 → c (12 + 12 * d + i) = b_done i) ∧ (∀ i, i < 12 + 12 * d ∨ 12 + 12 * d + 12 ≤ i → c i = b_done i)) ∧ ((∀ i, i < 300 → w (300 + 300 * d + i) = b_went i) ∧ (∀ i, i < 300 + 300 * d ∨ 300 + 300 * d + 300 ≤ i → w i = b_went i)) ∧
    ∀ post : Int32 → SY → Prop, wpY_empty (fun u => post 1 u) (g_made, g_blocks, g_edges, g_paths, g_many, g_lastX, g_lastY, g_lastBlocks, b_op, b_number, b_kind, b_target, b_from, b_to, b_exit, b_weight, b_firstEdge, b_tree, b_back, b_row, b_length, h, c, w, upd b_cut (1 + d) (b_cut 0), upd b_kept d 1, b_mark, b_way, b_tried, b_stack) → ∃ n20 : Nat, wY_dump_20 post (nI d) g_made g_blocks g_edges g_paths g_many g_lastX g_lastY g_lastBlocks n20 0 b_op b_number b_kind b_target b_from b_to b_exit b_weight b_firstEdge b_tree b_back b_row b_length b_gone b_done b_went b_cut b_kept b_mark b_way b_tried b_stack := by
  refine ⟨_, _, _, cw_dc b_gone, cw_dc b_done, cw_dc b_went, fun post hp => ?_⟩
  refine Exists.intro 38 (cw_fl (W := fun n x a => wY_dump_20 post (nI d) g_made g_blocks g_edges g_paths g_many g_lastX g_lastY g_lastBlocks n x b_op b_number b_kind b_target b_from b_to b_exit b_weight b_firstEdge b_tree b_back b_row b_length a b_done b_went b_cut b_kept b_mark b_way b_tried b_stack) (Q := fun a => ∃ n : Nat, wY_dump_54 post (nI d) g_made g_blocks g_edges g_paths g_many g_lastX g_lastY g_lastBlocks n 0 b_op b_number b_kind b_target b_from b_to b_exit b_weight b_firstEdge b_tree b_back b_row b_length a b_done b_went b_cut b_kept b_mark b_way b_tried b_stack) (fun j => 37 + 37 * d + j) (fun a j => a j) 37 ?_ ?_ 37 0 b_gone (by omega) ?_)
  · intro n a hQ; exact br_t (nI_le (a := 37) (Nat.le_refl _) (by omega)) hQ
  · intro n j a hj h; exact br_f (nI_ge (b := 37) hj (by omega)) ⟨vp_in_nI (by omega) (by omega), pk_in (37 + 37 * d + j) 111 (by omega) (hx := cw_iy 37 d j), nm_r (cd_up (cw_iy 37 d j) (by omega) (cd_rd rfl (by omega) rfl)) (nm_r (nI_1 j) h)⟩
  refine Exists.intro 13 (cw_fl (W := fun n x a => wY_dump_54 post (nI d) g_made g_blocks g_edges g_paths g_many g_lastX g_lastY g_lastBlocks n x b_op b_number b_kind b_target b_from b_to b_exit b_weight b_firstEdge b_tree b_back b_row b_length ((cw_f (fun j => 37 + 37 * d + j) (fun a j => a j) 37 0 b_gone)) a b_went b_cut b_kept b_mark b_way b_tried b_stack) (Q := fun a => ∃ n : Nat, wY_dump_88 post (nI d) g_made g_blocks g_edges g_paths g_many g_lastX g_lastY g_lastBlocks n 0 b_op b_number b_kind b_target b_from b_to b_exit b_weight b_firstEdge b_tree b_back b_row b_length ((cw_f (fun j => 37 + 37 * d + j) (fun a j => a j) 37 0 b_gone)) a b_went b_cut b_kept b_mark b_way b_tried b_stack) (fun j => 12 + 12 * d + j) (fun a j => a j) 12 ?_ ?_ 12 0 b_done (by omega) ?_)
  · intro n a hQ; exact br_t (nI_le (a := 12) (Nat.le_refl _) (by omega)) hQ
  · intro n j a hj h; exact br_f (nI_ge (b := 12) hj (by omega)) ⟨vp_in_nI (by omega) (by omega), pk_in (12 + 12 * d + j) 36 (by omega) (hx := cw_iy 12 d j), nm_r (cd_up (cw_iy 12 d j) (by omega) (cd_rd rfl (by omega) rfl)) (nm_r (nI_1 j) h)⟩
  refine Exists.intro 301 (cw_fl (W := fun n x a => wY_dump_88 post (nI d) g_made g_blocks g_edges g_paths g_many g_lastX g_lastY g_lastBlocks n x b_op b_number b_kind b_target b_from b_to b_exit b_weight b_firstEdge b_tree b_back b_row b_length ((cw_f (fun j => 37 + 37 * d + j) (fun a j => a j) 37 0 b_gone)) ((cw_f (fun j => 12 + 12 * d + j) (fun a j => a j) 12 0 b_done)) a b_cut b_kept b_mark b_way b_tried b_stack) (Q := fun a => wpY_empty (fun u => post 1 u) (g_made, g_blocks, g_edges, g_paths, g_many, g_lastX, g_lastY, g_lastBlocks, b_op, b_number, b_kind, b_target, b_from, b_to, b_exit, b_weight, b_firstEdge, b_tree, b_back, b_row, b_length, (cw_f (fun j => 37 + 37 * d + j) (fun a j => a j) 37 0 b_gone), (cw_f (fun j => 12 + 12 * d + j) (fun a j => a j) 12 0 b_done), a, upd b_cut (1 + d) (b_cut 0), upd b_kept d 1, b_mark, b_way, b_tried, b_stack)) (fun j => 300 + 300 * d + j) (fun a j => a j) 300 ?_ ?_ 300 0 b_went (by omega) hp)
  · intro n a hQ; exact br_t (nI_le (a := 300) (Nat.le_refl _) (by omega)) ⟨pk_in (1 + d) 3 (by omega) (hx := nI_add 1 d), nm_r (cd_up (nI_add 1 d) (by omega) rfl) ⟨vp_in_nI hd (by omega), nm_r (cd_up rfl (by omega) cd_z1) hQ⟩⟩
  · intro n j a hj h; exact br_f (nI_ge (b := 300) hj (by omega)) ⟨vp_in_nI (by omega) (by omega), pk_in (300 + 300 * d + j) 900 (by omega) (hx := cw_iy 300 d j), nm_r (cd_up (cw_iy 300 d j) (by omega) (cd_rd rfl (by omega) rfl)) (nm_r (nI_1 j) h)⟩
theorem cw_ymerge {d : Nat} (hd : d < 2) : ∃ h c w : Nat → Int32, ((∀ i, i < 37 → h i = b_gone i + b_gone (37 + 37 * d + i)) ∧ (∀ i, 37 ≤ i → h i = b_gone i)) ∧ ((∀ i, i < 12 → c i = b_done i + b_done (12 + 12 * d + i)) ∧ (∀ i, 12 ≤ i → c i = b_done i)) ∧ ((∀ i, i < 300 → w i = b_went i + b_went (300 + 300 * d + i)) ∧ (∀ i, 300 ≤ i → w i = b_went i)) ∧
    ∀ post : Int32 → SY → Prop, post 1 (g_made, g_blocks, g_edges, g_paths, g_many, g_lastX, g_lastY, g_lastBlocks, b_op, b_number, b_kind, b_target, b_from, b_to, b_exit, b_weight, b_firstEdge, b_tree, b_back, b_row, b_length, h, c, w, upd b_cut 0 (b_cut 0 + b_cut (1 + d)), b_kept, b_mark, b_way, b_tried, b_stack) → ∃ n56 : Nat, wY_merge_56 post (nI d) g_made g_blocks g_edges g_paths g_many g_lastX g_lastY g_lastBlocks n56 0 b_op b_number b_kind b_target b_from b_to b_exit b_weight b_firstEdge b_tree b_back b_row b_length b_gone b_done b_went b_cut b_kept b_mark b_way b_tried b_stack := by
  refine ⟨_, _, _, cw_dm b_gone, cw_dm b_done, cw_dm b_went, fun post hp => ?_⟩
  refine Exists.intro 38 (cw_fl (W := fun n x a => wY_merge_56 post (nI d) g_made g_blocks g_edges g_paths g_many g_lastX g_lastY g_lastBlocks n x b_op b_number b_kind b_target b_from b_to b_exit b_weight b_firstEdge b_tree b_back b_row b_length a b_done b_went b_cut b_kept b_mark b_way b_tried b_stack) (Q := fun a => ∃ n : Nat, wY_merge_93 post (nI d) g_made g_blocks g_edges g_paths g_many g_lastX g_lastY g_lastBlocks n 0 b_op b_number b_kind b_target b_from b_to b_exit b_weight b_firstEdge b_tree b_back b_row b_length a b_done b_went b_cut b_kept b_mark b_way b_tried b_stack) (fun j => j) (fun a j => a j + a (37 + 37 * d + j)) 37 ?_ ?_ 37 0 b_gone (by omega) ?_)
  · intro n a hQ; exact br_t (nI_le (a := 37) (Nat.le_refl _) (by omega)) hQ
  · intro n j a hj h; exact br_f (nI_ge (b := 37) hj (by omega)) ⟨vp_in_nI (by omega) (by omega), pk_in (37 + 37 * d + j) 111 (by omega) (hx := cw_iy 37 d j), vp_in_nI (by omega) (by omega), nm_r (cd_up rfl (by omega) (congr (congrArg _ (cd_rd rfl (by omega) rfl)) (cd_rd (cw_iy 37 d j) (by omega) rfl))) (nm_r (nI_1 j) h)⟩
  refine Exists.intro 13 (cw_fl (W := fun n x a => wY_merge_93 post (nI d) g_made g_blocks g_edges g_paths g_many g_lastX g_lastY g_lastBlocks n x b_op b_number b_kind b_target b_from b_to b_exit b_weight b_firstEdge b_tree b_back b_row b_length ((cw_f (fun j => j) (fun a j => a j + a (37 + 37 * d + j)) 37 0 b_gone)) a b_went b_cut b_kept b_mark b_way b_tried b_stack) (Q := fun a => ∃ n : Nat, wY_merge_130 post (nI d) g_made g_blocks g_edges g_paths g_many g_lastX g_lastY g_lastBlocks n 0 b_op b_number b_kind b_target b_from b_to b_exit b_weight b_firstEdge b_tree b_back b_row b_length ((cw_f (fun j => j) (fun a j => a j + a (37 + 37 * d + j)) 37 0 b_gone)) a b_went b_cut b_kept b_mark b_way b_tried b_stack) (fun j => j) (fun a j => a j + a (12 + 12 * d + j)) 12 ?_ ?_ 12 0 b_done (by omega) ?_)
  · intro n a hQ; exact br_t (nI_le (a := 12) (Nat.le_refl _) (by omega)) hQ
  · intro n j a hj h; exact br_f (nI_ge (b := 12) hj (by omega)) ⟨vp_in_nI (by omega) (by omega), pk_in (12 + 12 * d + j) 36 (by omega) (hx := cw_iy 12 d j), vp_in_nI (by omega) (by omega), nm_r (cd_up rfl (by omega) (congr (congrArg _ (cd_rd rfl (by omega) rfl)) (cd_rd (cw_iy 12 d j) (by omega) rfl))) (nm_r (nI_1 j) h)⟩
  refine Exists.intro 301 (cw_fl (W := fun n x a => wY_merge_130 post (nI d) g_made g_blocks g_edges g_paths g_many g_lastX g_lastY g_lastBlocks n x b_op b_number b_kind b_target b_from b_to b_exit b_weight b_firstEdge b_tree b_back b_row b_length ((cw_f (fun j => j) (fun a j => a j + a (37 + 37 * d + j)) 37 0 b_gone)) ((cw_f (fun j => j) (fun a j => a j + a (12 + 12 * d + j)) 12 0 b_done)) a b_cut b_kept b_mark b_way b_tried b_stack) (Q := fun a => post 1 (g_made, g_blocks, g_edges, g_paths, g_many, g_lastX, g_lastY, g_lastBlocks, b_op, b_number, b_kind, b_target, b_from, b_to, b_exit, b_weight, b_firstEdge, b_tree, b_back, b_row, b_length, (cw_f (fun j => j) (fun a j => a j + a (37 + 37 * d + j)) 37 0 b_gone), (cw_f (fun j => j) (fun a j => a j + a (12 + 12 * d + j)) 12 0 b_done), a, upd b_cut 0 (b_cut 0 + b_cut (1 + d)), b_kept, b_mark, b_way, b_tried, b_stack)) (fun j => j) (fun a j => a j + a (300 + 300 * d + j)) 300 ?_ ?_ 300 0 b_went (by omega) hp)
  · intro n a hQ; exact br_t (nI_le (a := 300) (Nat.le_refl _) (by omega)) ⟨pk_in (1 + d) 3 (by omega) (hx := nI_add 1 d), nm_r (congrArg (upd b_cut 0) (congrArg (b_cut 0 + ·) (cd_rd (nI_add 1 d) (by omega) rfl))) hQ⟩
  · intro n j a hj h; exact br_f (nI_ge (b := 300) hj (by omega)) ⟨vp_in_nI (by omega) (by omega), pk_in (300 + 300 * d + j) 900 (by omega) (hx := cw_iy 300 d j), vp_in_nI (by omega) (by omega), nm_r (cd_up rfl (by omega) (congr (congrArg _ (cd_rd rfl (by omega) rfl)) (cd_rd (cw_iy 300 d j) (by omega) rfl))) (nm_r (nI_1 j) h)⟩
end
end
section
/-! findBack: both sides walk alike -/
theorem cd_pu {a : Nat → Int32} {f : Nat → Nat} {i k v : Nat} {x : Int32} (hx : x = nI v) (h : i ≠ k → a i = nI (f i)) : upd a k x i = nI (cs_u f k v i) := by
  by_cases e : i = k
  · subst e; rw [pk_us, cs_us]; exact hx
  · rw [pk_un e, cs_un e]; exact h e
theorem cw_exY' {k : Nat} {x : Int32} (e : x = nI k) (hk : k ≤ 5) (post : Int32 → Prop) (h : post (nI (cg_ex k))) : wpY_exitsOf post x := by
  subst e; exact cw_exY hk post h
theorem cw_exX' {k : Nat} {x : Int32} (e : x = nI k) (hk : k ≤ 5) (post : Int32 → Prop) (h : post (nI (cg_ex k))) : wpX_exitsOf post x := by
  subst e; exact cw_exX hk post h
theorem cx_nar {a : Nat → Int32} {b v : Nat} (hb : b < 2 ^ 31) (h : a b = nI v) (hv : v < 127) : vp_nar .byte (((a (nI b).toNatClampNeg) + 1).toInt8.toInt32) = nI (v + 1) := by
  rw [cd_rd rfl hb h, nI_1, cd_nb (by omega)]
section
variable {f_drafted f_blocks f_edges f_probed f_paths f_fresh f_x f_y f_steps : Int32} {a_op a_with a_kind a_target a_from a_to a_exit a_weights a_inTree a_back a_first a_probes a_joined a_order a_ahead a_met a_way a_ways a_adds a_begins a_hits a_cuts a_gone a_runs a_version a_counts a_known : Nat → Int32} {post : SX → Prop} {n d b e : Nat}
theorem cx_pop (hd : d < 12) (hb : b < 12) (he : e < 100) (hw : a_way d = nI b) (ha : a_ahead b = nI e) (hf : a_first (b + 1) = nI e)
    (h : wX_findBack_74 post f_drafted f_blocks f_edges f_probed f_paths f_fresh f_x f_y f_steps n (nI d) a_op a_with a_kind a_target a_from a_to a_exit a_weights a_inTree a_back a_first a_probes a_joined a_order (upd a_ahead b (nI (e + 1))) (upd a_met b 2) a_way a_ways a_adds a_begins a_hits a_cuts a_gone a_runs a_version a_counts a_known) : wX_findBack_74 post f_drafted f_blocks f_edges f_probed f_paths f_fresh f_x f_y f_steps (n + 1) (nI (d + 1)) a_op a_with a_kind a_target a_from a_to a_exit a_weights a_inTree a_back a_first a_probes a_joined a_order a_ahead a_met a_way a_ways a_adds a_begins a_hits a_cuts a_gone a_runs a_version a_counts a_known :=
  br_f (nI_nle (by omega) (by omega)) ⟨pk_in d 12 hd (hx := nI_pred d), nm_r (cd_rd (nI_pred d) (by omega) hw) ⟨vp_in_nI hb (by omega), vp_in_nI hb (by omega), nm_r (cd_up rfl (by omega) (cx_nar (by omega) ha (by omega)))
    (nm_r (cd_rd rfl (by omega) ha) ⟨pk_in (b + 1) 13 (by omega) (hx := nI_1 b), br_t (cd_rd (nI_1 b) (by omega) hf).symm ⟨vp_in_nI hb (by omega), nm_r (cd_up rfl (by omega) (cd_nb' (n := 2) (by omega))) (nm_r (pk_m1 d) h)⟩⟩)⟩⟩
theorem cx_out {f : Nat} (hd : d < 12) (hb : b < 12) (he : e < 37) (hf' : f < 100) (hef : e ≠ f) (hw : a_way d = nI b) (ha : a_ahead b = nI e) (hf : a_first (b + 1) = nI f) (ht : a_to e = nI 12)
    (h : wX_findBack_74 post f_drafted f_blocks f_edges f_probed f_paths f_fresh f_x f_y f_steps n (nI (d + 1)) a_op a_with a_kind a_target a_from a_to a_exit a_weights a_inTree a_back a_first a_probes a_joined a_order (upd a_ahead b (nI (e + 1))) a_met a_way a_ways a_adds a_begins a_hits a_cuts a_gone a_runs a_version a_counts a_known) : wX_findBack_74 post f_drafted f_blocks f_edges f_probed f_paths f_fresh f_x f_y f_steps (n + 1) (nI (d + 1)) a_op a_with a_kind a_target a_from a_to a_exit a_weights a_inTree a_back a_first a_probes a_joined a_order a_ahead a_met a_way a_ways a_adds a_begins a_hits a_cuts a_gone a_runs a_version a_counts a_known :=
  br_f (nI_nle (by omega) (by omega)) ⟨pk_in d 12 hd (hx := nI_pred d), nm_r (cd_rd (nI_pred d) (by omega) hw) ⟨vp_in_nI hb (by omega), vp_in_nI hb (by omega), nm_r (cd_up rfl (by omega) (cx_nar (by omega) ha (by omega)))
    (nm_r (cd_rd rfl (by omega) ha) ⟨pk_in (b + 1) 13 (by omega) (hx := nI_1 b), br_f (fun h => hef (cd_im (h.trans (cd_rd (nI_1 b) (by omega) hf)) (by omega) (by omega)))
      ⟨vp_in_nI he (by omega), pk_le 12 12 (fun _ => h) (fun h => absurd h (by omega)) (hy := cd_rd rfl (by omega) ht)⟩⟩)⟩⟩
theorem cx_seen {f t k : Nat} (hd : d < 12) (hb : b < 12) (he : e < 37) (hf' : f < 100) (hef : e ≠ f) (ht' : t < 12) (hk : k = 1 ∨ k = 2) (hw : a_way d = nI b) (ha : a_ahead b = nI e) (hf : a_first (b + 1) = nI f) (ht : a_to e = nI t) (hm : a_met t = nI k)
    (h : wX_findBack_74 post f_drafted f_blocks f_edges f_probed f_paths f_fresh f_x f_y f_steps n (nI (d + 1)) a_op a_with a_kind a_target a_from a_to a_exit a_weights a_inTree (upd a_back e (nI (if k = 1 then 1 else 0))) a_first a_probes a_joined a_order (upd a_ahead b (nI (e + 1))) a_met a_way a_ways a_adds a_begins a_hits a_cuts a_gone a_runs a_version a_counts a_known) : wX_findBack_74 post f_drafted f_blocks f_edges f_probed f_paths f_fresh f_x f_y f_steps (n + 1) (nI (d + 1)) a_op a_with a_kind a_target a_from a_to a_exit a_weights a_inTree a_back a_first a_probes a_joined a_order a_ahead a_met a_way a_ways a_adds a_begins a_hits a_cuts a_gone a_runs a_version a_counts a_known :=
  br_f (nI_nle (by omega) (by omega)) ⟨pk_in d 12 hd (hx := nI_pred d), nm_r (cd_rd (nI_pred d) (by omega) hw) ⟨vp_in_nI hb (by omega), vp_in_nI hb (by omega), nm_r (cd_up rfl (by omega) (cx_nar (by omega) ha (by omega)))
    (nm_r (cd_rd rfl (by omega) ha) ⟨pk_in (b + 1) 13 (by omega) (hx := nI_1 b), br_f (fun h => hef (cd_im (h.trans (cd_rd (nI_1 b) (by omega) hf)) (by omega) (by omega)))
      ⟨vp_in_nI he (by omega), pk_le 12 t (fun h => absurd h (by omega)) (fun _ => ⟨vp_in_nI he (by omega), nm_r (cd_rd rfl (by omega) ht) ⟨vp_in_nI ht' (by omega),
        pk_eq k 1 (fun h1 => And.intro (vp_in_nI he (by omega)) (nm_r (cd_up rfl (by omega) (cd_z1.trans (by rw [if_pos h1]; rfl))) ⟨vp_in_nI ht' (by omega), br_f (by rw [cd_rd rfl (by omega) hm]; exact nI_ne0 (by omega) (by omega)) h⟩))
          (fun h1 => And.intro (vp_in_nI he (by omega)) (nm_r (cd_up rfl (by omega) (cd_z0.trans (by rw [if_neg h1]; rfl))) ⟨vp_in_nI ht' (by omega), br_f (by rw [cd_rd rfl (by omega) hm]; exact nI_ne0 (by omega) (by omega)) h⟩)) (hx := cd_rd rfl (by omega) hm)⟩⟩) (hy := cd_rd rfl (by omega) ht)⟩⟩)⟩⟩
theorem cx_push {f t : Nat} (hd : d + 1 < 12) (hb : b < 12) (he : e < 37) (hf' : f < 100) (hef : e ≠ f) (ht' : t < 12) (hw : a_way d = nI b) (ha : a_ahead b = nI e) (hf : a_first (b + 1) = nI f) (ht : a_to e = nI t) (hm : a_met t = nI 0)
    (h : wX_findBack_74 post f_drafted f_blocks f_edges f_probed f_paths f_fresh f_x f_y f_steps n (nI (d + 2)) a_op a_with a_kind a_target a_from a_to a_exit a_weights a_inTree (upd a_back e 0) a_first a_probes a_joined a_order (upd a_ahead b (nI (e + 1))) (upd a_met t 1) (upd a_way (d + 1) (nI t)) a_ways a_adds a_begins a_hits a_cuts a_gone a_runs a_version a_counts a_known) : wX_findBack_74 post f_drafted f_blocks f_edges f_probed f_paths f_fresh f_x f_y f_steps (n + 1) (nI (d + 1)) a_op a_with a_kind a_target a_from a_to a_exit a_weights a_inTree a_back a_first a_probes a_joined a_order a_ahead a_met a_way a_ways a_adds a_begins a_hits a_cuts a_gone a_runs a_version a_counts a_known :=
  br_f (nI_nle (by omega) (by omega)) ⟨pk_in d 12 (by omega) (hx := nI_pred d), nm_r (cd_rd (nI_pred d) (by omega) hw) ⟨vp_in_nI hb (by omega), vp_in_nI hb (by omega), nm_r (cd_up rfl (by omega) (cx_nar (by omega) ha (by omega)))
    (nm_r (cd_rd rfl (by omega) ha) ⟨pk_in (b + 1) 13 (by omega) (hx := nI_1 b), br_f (fun h => hef (cd_im (h.trans (cd_rd (nI_1 b) (by omega) hf)) (by omega) (by omega)))
      ⟨vp_in_nI he (by omega), pk_le 12 t (fun h => absurd h (by omega)) (fun _ => ⟨vp_in_nI he (by omega), nm_r (cd_rd rfl (by omega) ht) ⟨vp_in_nI ht' (by omega),
        pk_eq 0 1 (fun h1 => absurd h1 (by omega))
          (fun h1 => And.intro (vp_in_nI he (by omega)) (nm_r (cd_up rfl (by omega) cd_z0) ⟨vp_in_nI ht' (by omega), br_t (cd_rd rfl (by omega) hm) ⟨vp_in_nI ht' (by omega), nm_r (cd_up rfl (by omega) (cd_nb' (n := 1) (by omega))) (nm_r (nI_1 (d + 1)) ⟨vp_in_nI hd (by omega), nm_r (cd_up rfl (by omega) (cd_nb (by omega))) h⟩)⟩⟩)) (hx := cd_rd rfl (by omega) hm)⟩⟩) (hy := cd_rd rfl (by omega) ht)⟩⟩)⟩⟩
end
section
variable {g_made g_blocks g_edges g_paths g_many g_lastX g_lastY g_lastBlocks : Int32} {b_op b_number b_kind b_target b_from b_to b_exit b_weight b_firstEdge b_tree b_back b_row b_length b_gone b_done b_went b_cut b_kept b_mark b_way b_tried b_stack : Nat → Int32} {post : SY → Prop} {n d b j k : Nat}
theorem cy_pop (hd : d < 13) (hb : b < 12) (hk : k ≤ 5) (hw : b_stack d = nI b) (ha : b_tried d = nI j) (hj : j = cg_ex k) (hki : b_kind (12 + b) = nI k)
    (h : wY_findBack_67 post g_made g_blocks g_edges g_paths g_many g_lastX g_lastY g_lastBlocks n (nI d) b_op b_number b_kind b_target b_from b_to b_exit b_weight b_firstEdge b_tree b_back b_row b_length b_gone b_done b_went b_cut b_kept (upd b_mark b 2) b_way b_tried b_stack) : wY_findBack_67 post g_made g_blocks g_edges g_paths g_many g_lastX g_lastY g_lastBlocks (n + 1) (nI (d + 1)) b_op b_number b_kind b_target b_from b_to b_exit b_weight b_firstEdge b_tree b_back b_row b_length b_gone b_done b_went b_cut b_kept b_mark b_way b_tried b_stack :=
  br_f (nI_nle (by omega) (by omega)) ⟨pk_in d 13 hd (hx := nI_pred d), nm_r (cd_rd (nI_pred d) (by omega) hw) ⟨pk_in d 13 hd (hx := nI_pred d), nm_r (cd_rd (nI_pred d) (by omega) ha) ⟨pk_in (12 + b) 24 (by omega) (hx := nI_add 12 b),
    cw_exY' (cd_rd (nI_add 12 b) (by omega) hki) hk _ (br_t (congrArg nI hj) ⟨vp_in_nI (by omega) (by omega), nm_r (cd_up rfl (by omega) rfl) (nm_r (pk_m1 d) h)⟩)⟩⟩⟩
theorem cy_out {s : Nat} (hd : d < 13) (hb : b < 12) (hk : k ≤ 5) (hw : b_stack d = nI b) (ha : b_tried d = nI j) (hj : j < cg_ex k) (hki : b_kind (12 + b) = nI k) (hf : b_firstEdge b = nI s) (hs : s + j < 37) (ht : b_to (s + j) = -1)
    (h : wY_findBack_67 post g_made g_blocks g_edges g_paths g_many g_lastX g_lastY g_lastBlocks n (nI (d + 1)) b_op b_number b_kind b_target b_from b_to b_exit b_weight b_firstEdge b_tree b_back b_row b_length b_gone b_done b_went b_cut b_kept b_mark b_way (upd b_tried d (nI (j + 1))) b_stack) : wY_findBack_67 post g_made g_blocks g_edges g_paths g_many g_lastX g_lastY g_lastBlocks (n + 1) (nI (d + 1)) b_op b_number b_kind b_target b_from b_to b_exit b_weight b_firstEdge b_tree b_back b_row b_length b_gone b_done b_went b_cut b_kept b_mark b_way b_tried b_stack :=
  have h3 := (cg_ex1 k).2
  br_f (nI_nle (by omega) (by omega)) ⟨pk_in d 13 hd (hx := nI_pred d), nm_r (cd_rd (nI_pred d) (by omega) hw) ⟨pk_in d 13 hd (hx := nI_pred d), nm_r (cd_rd (nI_pred d) (by omega) ha) ⟨pk_in (12 + b) 24 (by omega) (hx := nI_add 12 b),
    cw_exY' (cd_rd (nI_add 12 b) (by omega) hki) hk _ (br_f (fun h => absurd (cd_im h (by omega) (by omega)) (by omega)) ⟨pk_in d 13 hd (hx := nI_pred d), pk_in d 13 hd (hx := nI_pred d),
      nm_r (cd_up (nI_pred d) (by omega) (by rw [cd_rd (nI_pred d) (by omega) ha, nI_1])) ⟨vp_in_nI (by omega) (by omega), nm_r (e' := nI (s + j)) (by rw [cd_rd rfl (by omega) hf, nI_add]) ⟨vp_in_nI hs (by omega),
        nm_r (cd_rd rfl (by omega) ht) (br_f (by decide) h)⟩⟩⟩)⟩⟩⟩
theorem cy_seen {s t q : Nat} (hd : d < 13) (hb : b < 12) (hk : k ≤ 5) (hw : b_stack d = nI b) (ha : b_tried d = nI j) (hj : j < cg_ex k) (hki : b_kind (12 + b) = nI k) (hf : b_firstEdge b = nI s) (hs : s + j < 37) (ht' : t < 12) (ht : b_to (s + j) = nI t) (hq : q = 1 ∨ q = 2) (hm : b_mark t = nI q)
    (h : wY_findBack_67 post g_made g_blocks g_edges g_paths g_many g_lastX g_lastY g_lastBlocks n (nI (d + 1)) b_op b_number b_kind b_target b_from b_to b_exit b_weight b_firstEdge b_tree ((if q = 1 then upd b_back (s + j) 1 else b_back)) b_row b_length b_gone b_done b_went b_cut b_kept b_mark b_way (upd b_tried d (nI (j + 1))) b_stack) : wY_findBack_67 post g_made g_blocks g_edges g_paths g_many g_lastX g_lastY g_lastBlocks (n + 1) (nI (d + 1)) b_op b_number b_kind b_target b_from b_to b_exit b_weight b_firstEdge b_tree b_back b_row b_length b_gone b_done b_went b_cut b_kept b_mark b_way b_tried b_stack :=
  have h3 := (cg_ex1 k).2
  br_f (nI_nle (by omega) (by omega)) ⟨pk_in d 13 hd (hx := nI_pred d), nm_r (cd_rd (nI_pred d) (by omega) hw) ⟨pk_in d 13 hd (hx := nI_pred d), nm_r (cd_rd (nI_pred d) (by omega) ha) ⟨pk_in (12 + b) 24 (by omega) (hx := nI_add 12 b),
    cw_exY' (cd_rd (nI_add 12 b) (by omega) hki) hk _ (br_f (fun h => absurd (cd_im h (by omega) (by omega)) (by omega)) ⟨pk_in d 13 hd (hx := nI_pred d), pk_in d 13 hd (hx := nI_pred d),
      nm_r (cd_up (nI_pred d) (by omega) (by rw [cd_rd (nI_pred d) (by omega) ha, nI_1])) ⟨vp_in_nI (by omega) (by omega), nm_r (e' := nI (s + j)) (by rw [cd_rd rfl (by omega) hf, nI_add]) ⟨vp_in_nI hs (by omega),
        nm_r (cd_rd rfl (by omega) ht) (br_t (nI_pos' (by omega)) ⟨vp_in_nI (by omega) (by omega), pk_eq q 1
          (fun h1 => ⟨vp_in_nI hs (by omega), nm_r (e' := (if q = 1 then upd b_back (s + j) 1 else b_back)) (by rw [if_pos h1]; exact cd_up rfl (by omega) cd_z1) (And.intro (vp_in_nI (by omega) (by omega)) (br_f (by rw [cd_rd rfl (by omega) hm]; exact nI_ne0 (by omega) (by omega)) h))⟩)
          (fun h1 => And.intro (vp_in_nI (by omega) (by omega)) (br_f (by rw [cd_rd rfl (by omega) hm]; exact nI_ne0 (by omega) (by omega)) (by rw [if_neg h1] at h; exact h))) (hx := cd_rd rfl (by omega) hm)⟩)⟩⟩⟩)⟩⟩⟩
theorem cy_push {s t : Nat} (hd : d + 1 < 13) (hb : b < 12) (hk : k ≤ 5) (hw : b_stack d = nI b) (ha : b_tried d = nI j) (hj : j < cg_ex k) (hki : b_kind (12 + b) = nI k) (hf : b_firstEdge b = nI s) (hs : s + j < 37) (ht' : t < 12) (ht : b_to (s + j) = nI t) (hm : b_mark t = nI 0)
    (h : wY_findBack_67 post g_made g_blocks g_edges g_paths g_many g_lastX g_lastY g_lastBlocks n (nI (d + 2)) b_op b_number b_kind b_target b_from b_to b_exit b_weight b_firstEdge b_tree b_back b_row b_length b_gone b_done b_went b_cut b_kept (upd b_mark t 1) b_way (upd (upd b_tried d (nI (j + 1))) (d + 1) 0) (upd b_stack (d + 1) (nI t))) : wY_findBack_67 post g_made g_blocks g_edges g_paths g_many g_lastX g_lastY g_lastBlocks (n + 1) (nI (d + 1)) b_op b_number b_kind b_target b_from b_to b_exit b_weight b_firstEdge b_tree b_back b_row b_length b_gone b_done b_went b_cut b_kept b_mark b_way b_tried b_stack :=
  have h3 := (cg_ex1 k).2
  br_f (nI_nle (by omega) (by omega)) ⟨pk_in d 13 (by omega) (hx := nI_pred d), nm_r (cd_rd (nI_pred d) (by omega) hw) ⟨pk_in d 13 (by omega) (hx := nI_pred d), nm_r (cd_rd (nI_pred d) (by omega) ha) ⟨pk_in (12 + b) 24 (by omega) (hx := nI_add 12 b),
    cw_exY' (cd_rd (nI_add 12 b) (by omega) hki) hk _ (br_f (fun h => absurd (cd_im h (by omega) (by omega)) (by omega)) ⟨pk_in d 13 (by omega) (hx := nI_pred d), pk_in d 13 (by omega) (hx := nI_pred d),
      nm_r (cd_up (nI_pred d) (by omega) (by rw [cd_rd (nI_pred d) (by omega) ha, nI_1])) ⟨vp_in_nI (by omega) (by omega), nm_r (e' := nI (s + j)) (by rw [cd_rd rfl (by omega) hf, nI_add]) ⟨vp_in_nI hs (by omega),
        nm_r (cd_rd rfl (by omega) ht) (br_t (nI_pos' (by omega)) ⟨vp_in_nI (by omega) (by omega), pk_eq 0 1
          (fun h1 => absurd h1 (by omega))
          (fun h1 => And.intro (vp_in_nI (by omega) (by omega)) (br_t (cd_rd rfl (by omega) hm) ⟨vp_in_nI (by omega) (by omega), nm_r (cd_up rfl (by omega) rfl) ⟨vp_in_nI hd (by omega), nm_r (cd_up rfl (by omega) rfl) ⟨vp_in_nI hd (by omega), nm_r (cd_up rfl (by omega) rfl) (nm_r (nI_1 (d + 1)) h)⟩⟩⟩)) (hx := cd_rd rfl (by omega) hm)⟩)⟩⟩⟩)⟩⟩⟩
end
end
section
/-! findBack, the loop in lockstep -/
def cx_RX (nb d : Nat) (fs stk m tr bk : Nat → Nat) (way ahead met back : Nat → Int32) : Prop :=
  (∀ i, i < d → way i = nI (stk i)) ∧ (∀ b, b < nb → met b = nI (m b)) ∧ (∀ b, b < nb → m b ≤ 1 → ahead b = nI (fs b + tr b)) ∧ (∀ e, e < fs nb + 1 → back e = nI (bk e))
def cx_RY (nb d : Nat) (fs stk m tr bk : Nat → Nat) (stack tried mark back : Nat → Int32) : Prop :=
  (∀ i, i < d → stack i = nI (stk i)) ∧ (∀ i, i < d → tried i = nI (tr (stk i))) ∧ (∀ b, b < nb → mark b = nI (m b)) ∧ (∀ e, e < fs nb + 1 → back e = nI (bk e))
theorem cs_uk {f : Nat → Nat} {k v : Nat} (h : f k = v) (x : Nat) : cs_u f k v x = f x := by
  by_cases e : x = k
  · subst e; rw [cs_us]; exact h.symm
  · exact cs_un e
section
variable {f_drafted f_blocks f_edges f_probed f_paths f_fresh f_x f_y f_steps : Int32} {a_op a_with a_kind a_target a_from a_to a_exit a_weights a_inTree a_back a_first a_probes a_joined a_order a_ahead a_met a_way a_ways a_adds a_begins a_hits a_cuts a_gone a_runs a_version a_counts a_known : Nat → Int32} {g_made g_blocks g_edges g_paths g_many g_lastX g_lastY g_lastBlocks : Int32} {b_op b_number b_kind b_target b_from b_to b_exit b_weight b_firstEdge b_tree b_back b_row b_length b_gone b_done b_went b_cut b_kept b_mark b_way b_tried b_stack : Nat → Int32}
set_option maxHeartbeats 4000000 in
theorem cx_loop {nb : Nat} {ki fs F T : Nat → Nat} (G : cg_GR nb ki fs F T) (hfi : ∀ b, b ≤ nb → a_first b = nI (fs b)) (hto : ∀ e, e < fs nb + 1 → a_to e = nI (T e))
    (hki : ∀ b, b < nb → b_kind (12 + b) = nI (ki b)) (hyf : ∀ b, b < nb → b_firstEdge b = nI (fs b)) (hyt : ∀ e, e < fs nb + 1 → b_to e = cd_cv (T e)) :
    ∀ N d (stk m tr bk rk : Nat → Nat) c a_way a_ahead a_met a_back b_stack b_tried b_mark b_back, cg_mu nb ki m tr < N → cg_DI nb ki fs T d stk m tr bk rk c →
    cx_RX nb d fs stk m tr bk a_way a_ahead a_met a_back → cx_RY nb d fs stk m tr bk b_stack b_tried b_mark b_back →
    ∃ (m' bk' rk' : Nat → Nat) (w ah me ba st ti ma bb : Nat → Int32), cg_DF nb ki fs T m' bk' rk' ∧ cr_K (fs nb + 1) bk' ba bb ∧ (∀ b, b < nb → me b = nI (m' b)) ∧
      (∀ post : SX → Prop, post (f_drafted, f_blocks, f_edges, f_probed, f_paths, f_fresh, f_x, f_y, f_steps, a_op, a_with, a_kind, a_target, a_from, a_to, a_exit, a_weights, a_inTree, ba, a_first, a_probes, a_joined, a_order, ah, me, w, a_ways, a_adds, a_begins, a_hits, a_cuts, a_gone, a_runs, a_version, a_counts, a_known) → ∃ n, wX_findBack_74 post f_drafted f_blocks f_edges f_probed f_paths f_fresh f_x f_y f_steps n (nI d) a_op a_with a_kind a_target a_from a_to a_exit a_weights a_inTree a_back a_first a_probes a_joined a_order a_ahead a_met a_way a_ways a_adds a_begins a_hits a_cuts a_gone a_runs a_version a_counts a_known) ∧
      (∀ post : SY → Prop, post (g_made, g_blocks, g_edges, g_paths, g_many, g_lastX, g_lastY, g_lastBlocks, b_op, b_number, b_kind, b_target, b_from, b_to, b_exit, b_weight, b_firstEdge, b_tree, bb, b_row, b_length, b_gone, b_done, b_went, b_cut, b_kept, ma, b_way, ti, st) → ∃ n, wY_findBack_67 post g_made g_blocks g_edges g_paths g_many g_lastX g_lastY g_lastBlocks n (nI d) b_op b_number b_kind b_target b_from b_to b_exit b_weight b_firstEdge b_tree b_back b_row b_length b_gone b_done b_went b_cut b_kept b_mark b_way b_tried b_stack) := by
  have hnb := G.2.1
  have hne := cg_ne G
  intro N
  induction N with
  | zero => intro d stk m tr bk rk c w ah me ba st ti ma bb h; omega
  | succ N ih =>
    intro d stk m tr bk rk c a_way a_ahead a_met a_back b_stack b_tried b_mark b_back hN I RX RY
    obtain ⟨x1, x2, x3, x4⟩ := RX
    obtain ⟨y1, y2, y3, y4⟩ := RY
    cases d with
    | zero =>
      exact ⟨m, bk, rk, a_way, a_ahead, a_met, a_back, b_stack, b_tried, b_mark, b_back, cg_end G I, fun e he => ⟨x4 e he, y4 e he⟩, x2, fun post hp => ⟨1, br_t (by decide) hp⟩, fun post hp => ⟨1, br_t (by decide) hp⟩⟩
    | succ d =>
      have I' := I
      obtain ⟨h1, h2, h3, h4, h5, ⟨h6, h6'⟩, h7, h8, h9⟩ := I
      have hdn : d + 1 ≤ nb := by rw [h7]; exact cs_nle (fun i _ => by split <;> omega)
      obtain ⟨hb, hmb⟩ := h2 d (by omega)
      have hkb := (G.2.2.2.1 (stk d) hb).1
      have hfs := (G.2.2.2.1 (stk d) hb).2
      have hw := x1 d (by omega)
      have hah := x3 (stk d) hb (by omega)
      have hst := y1 d (by omega)
      have hti := y2 d (by omega)
      have hff := hfi (stk d + 1) (by omega)
      have hfle := cg_mono G (a := stk d + 1) nb (by omega) (Nat.le_refl _)
      by_cases hj : tr (stk d) = cg_ex (ki (stk d))
      · -- the block is left
        obtain ⟨I2, hmu⟩ := cg_pop G I' hj
        obtain ⟨m', bk', rk', w, ah, me, ba, st, ti, ma, bb, q1, q2, q3, qX, qY⟩ := ih d stk (cs_u m (stk d) 2) tr bk (cs_u rk (stk d) c) (c + 1) a_way (upd a_ahead (stk d) (nI (fs (stk d) + tr (stk d) + 1))) (upd a_met (stk d) 2) a_back b_stack b_tried (upd b_mark (stk d) 2) b_back (by omega) I2
          ⟨fun i hi => x1 i (by omega), fun b hb' => cd_pu rfl (fun _ => x2 b hb'), fun b hb' hm' => by
              have hne' : b ≠ stk d := by intro e; rw [e, cs_us] at hm'; omega
              rw [cs_un hne'] at hm'; rw [pk_un hne']; exact x3 b hb' hm', x4⟩
          ⟨fun i hi => y1 i (by omega), fun i hi => y2 i (by omega), fun b hb' => cd_pu rfl (fun _ => y3 b hb'), y4⟩
        refine ⟨m', bk', rk', w, ah, me, ba, st, ti, ma, bb, q1, q2, q3, fun post hp => ?_, fun post hp => ?_⟩
        · obtain ⟨n, hn⟩ := qX post hp
          exact ⟨n + 1, cx_pop (b := stk d) (e := fs (stk d) + tr (stk d)) (by omega) (by omega) (by omega) hw hah (by rw [hff]; exact congrArg nI (by omega)) hn⟩
        · obtain ⟨n, hn⟩ := qY post hp
          exact ⟨n + 1, cy_pop (b := stk d) (j := tr (stk d)) (k := ki (stk d)) (by omega) (by omega) hkb hst hti hj (hki _ hb) hn⟩
      · have hj' : tr (stk d) < cg_ex (ki (stk d)) := by have := (h1 _ hb).2.1; omega
        have hlt := cg_lt G hb hj'
        have hbk0 := h6 (stk d) (tr (stk d)) hb (Nat.le_refl _) hj'
        have hT := (G.2.2.2.2.1 (stk d) (tr (stk d)) hb hj').2
        generalize hee : fs (stk d) + tr (stk d) = e at *
        have hto' := hto e (by omega)
        have hyt' := hyt e (by omega)
        have hahp : ∀ (m2 : Nat → Nat), (∀ b, b < nb → m2 b ≤ 1 → m b ≤ 1) → ∀ b, b < nb → m2 b ≤ 1 → upd a_ahead (stk d) (nI (e + 1)) b = nI (fs b + cs_u tr (stk d) (tr (stk d) + 1) b) := by
          intro m2 hm2 b hb' hm'
          by_cases eb : b = stk d
          · subst eb; rw [pk_us, cs_us]; exact congrArg nI (by omega)
          · rw [pk_un eb, cs_un eb]; exact x3 b hb' (hm2 b hb' hm')
        have htip : ∀ i, i < d + 1 → upd b_tried d (nI (tr (stk d) + 1)) i = nI (cs_u tr (stk d) (tr (stk d) + 1) (stk i)) := by
          intro i hi
          by_cases ei : i = d
          · subst ei; rw [pk_us, cs_us]
          · rw [pk_un ei, cs_un (h3 i d (by omega) (by omega))]; exact y2 i hi
        by_cases h12 : T e = 12
        · -- outside
          obtain ⟨I2, hmu⟩ := cg_adv G I' hb hmb hj' 0 (by rw [hee]; exact Or.inl ⟨h12, cs_us⟩)
          rw [hee] at I2
          obtain ⟨m', bk', rk', w, ah, me, ba, st, ti, ma, bb, q1, q2, q3, qX, qY⟩ := ih (d + 1) stk m (cs_u tr (stk d) (tr (stk d) + 1)) (cs_u bk e 0) rk c a_way (upd a_ahead (stk d) (nI (e + 1))) a_met a_back b_stack (upd b_tried d (nI (tr (stk d) + 1))) b_mark b_back (by omega) I2
            ⟨x1, x2, hahp m (fun _ _ h => h), fun x hx => by rw [cs_uk hbk0]; exact x4 x hx⟩
            ⟨y1, htip, y3, fun x hx => by rw [cs_uk hbk0]; exact y4 x hx⟩
          refine ⟨m', bk', rk', w, ah, me, ba, st, ti, ma, bb, q1, q2, q3, fun post hp => ?_, fun post hp => ?_⟩
          · obtain ⟨n, hn⟩ := qX post hp
            exact ⟨n + 1, cx_out (b := stk d) (e := e) (f := fs (stk d + 1)) (by omega) (by omega) (by omega) (by omega) (by omega) hw hah hff (by rw [hto', h12]) hn⟩
          · obtain ⟨n, hn⟩ := qY post hp
            exact ⟨n + 1, cy_out (b := stk d) (j := tr (stk d)) (k := ki (stk d)) (s := fs (stk d)) (by omega) (by omega) hkb hst hti hj' (hki _ hb) (hyf _ hb) (by omega) (by rw [hee, hyt', h12]; rfl) hn⟩
        · have ht : T e < nb := by omega
          have hmt := (h1 _ ht).1
          by_cases hm0 : m (T e) = 0
          · -- a new block
            obtain ⟨I1, hmu1, hdlt⟩ := cg_push G I' ht hm0
            have hneq : stk d ≠ T e := by intro e2; rw [← e2] at hm0; omega
            obtain ⟨I2, hmu⟩ := cg_adv G I1 hb (by rw [cs_un hneq]; exact hmb) hj' 0 (by
              rw [hee]
              refine Or.inr ⟨ht, by rw [cs_us]; exact Nat.le_refl _, Or.inr ⟨cs_us, Or.inr ⟨d, d + 1, by omega, by omega, by rw [cs_un (by omega)], cs_us⟩⟩⟩)
            rw [hee] at I2
            obtain ⟨m', bk', rk', w, ah, me, ba, st, ti, ma, bb, q1, q2, q3, qX, qY⟩ := ih (d + 2) (cs_u stk (d + 1) (T e)) (cs_u m (T e) 1) (cs_u tr (stk d) (tr (stk d) + 1)) (cs_u bk e 0) rk c (upd a_way (d + 1) (nI (T e))) (upd a_ahead (stk d) (nI (e + 1))) (upd a_met (T e) 1) (upd a_back e 0)
              (upd b_stack (d + 1) (nI (T e))) (upd (upd b_tried d (nI (tr (stk d) + 1))) (d + 1) 0) (upd b_mark (T e) 1) b_back (by omega) I2
              ⟨fun i hi => cd_pu rfl (fun hi' => x1 i (by omega)), fun b hb' => cd_pu rfl (fun _ => x2 b hb'), hahp _ (fun b hb' h => by
                  by_cases eb : b = T e
                  · subst eb; omega
                  · rw [cs_un eb] at h; exact h), fun x hx => cd_pu rfl (fun _ => x4 x hx)⟩
              ⟨fun i hi => cd_pu rfl (fun hi' => y1 i (by omega)), fun i hi => by
                  by_cases ei : i = d + 1
                  · subst ei; rw [pk_us, cs_us, cs_un (Ne.symm hneq), (h1 _ ht).2.2.1 hm0]; rfl
                  · rw [pk_un ei, cs_un ei]; exact htip i (by omega), fun b hb' => cd_pu rfl (fun _ => y3 b hb'), fun x hx => by rw [cs_uk hbk0]; exact y4 x hx⟩
            refine ⟨m', bk', rk', w, ah, me, ba, st, ti, ma, bb, q1, q2, q3, fun post hp => ?_, fun post hp => ?_⟩
            · obtain ⟨n, hn⟩ := qX post hp
              exact ⟨n + 1, cx_push (b := stk d) (e := e) (f := fs (stk d + 1)) (t := T e) (by omega) (by omega) (by omega) (by omega) (by omega) (by omega) hw hah hff hto' (by rw [x2 _ ht, hm0]) hn⟩
            · obtain ⟨n, hn⟩ := qY post hp
              exact ⟨n + 1, cy_push (b := stk d) (j := tr (stk d)) (k := ki (stk d)) (s := fs (stk d)) (t := T e) (by omega) (by omega) hkb hst hti hj' (hki _ hb) (hyf _ hb) (by omega) (by omega) (by rw [hee, hyt', cd_cvn h12]) (by rw [y3 _ ht, hm0]) hn⟩
          · -- a block that was met
            have hcase : m (T e) = 1 ∨ m (T e) = 2 := by omega
            obtain ⟨I2, hmu⟩ := cg_adv G I' hb hmb hj' (if m (T e) = 1 then 1 else 0) (by
              rw [hee]
              refine Or.inr ⟨ht, by omega, ?_⟩
              rw [cs_us]
              rcases hcase with hc | hc
              · exact Or.inl (if_pos hc)
              · exact Or.inr ⟨if_neg (by omega), Or.inl ⟨hc, fun h => by omega⟩⟩)
            rw [hee] at I2
            obtain ⟨m', bk', rk', w, ah, me, ba, st, ti, ma, bb, q1, q2, q3, qX, qY⟩ := ih (d + 1) stk m (cs_u tr (stk d) (tr (stk d) + 1)) (cs_u bk e (if m (T e) = 1 then 1 else 0)) rk c a_way (upd a_ahead (stk d) (nI (e + 1))) a_met (upd a_back e (nI (if m (T e) = 1 then 1 else 0))) b_stack (upd b_tried d (nI (tr (stk d) + 1))) b_mark (if m (T e) = 1 then upd b_back e 1 else b_back) (by omega) I2
              ⟨x1, x2, hahp m (fun _ _ h => h), fun x hx => cd_pu rfl (fun _ => x4 x hx)⟩
              ⟨y1, htip, y3, fun x hx => by
                by_cases hc : m (T e) = 1
                · rw [if_pos hc, if_pos hc]; exact cd_pu rfl (fun _ => y4 x hx)
                · rw [if_neg hc, if_neg hc, cs_uk hbk0]; exact y4 x hx⟩
            refine ⟨m', bk', rk', w, ah, me, ba, st, ti, ma, bb, q1, q2, q3, fun post hp => ?_, fun post hp => ?_⟩
            · obtain ⟨n, hn⟩ := qX post hp
              exact ⟨n + 1, cx_seen (b := stk d) (e := e) (f := fs (stk d + 1)) (t := T e) (k := m (T e)) (by omega) (by omega) (by omega) (by omega) (by omega) (by omega) hcase hw hah hff hto' (x2 _ ht) hn⟩
            · obtain ⟨n, hn⟩ := qY post hp
              exact ⟨n + 1, cy_seen (b := stk d) (j := tr (stk d)) (k := ki (stk d)) (s := fs (stk d)) (t := T e) (q := m (T e)) (by omega) (by omega) hkb hst hti hj' (hki _ hb) (hyf _ hb) (by omega) (by omega) (by rw [hee, hyt', cd_cvn h12]) hcase (y3 _ ht) (by rw [hee]; exact hn)⟩
end
end
section
/-! findBack, from its start -/
theorem cg_DI0 {nb : Nat} {ki fs F T : Nat → Nat} (G : cg_GR nb ki fs F T) : cg_DI nb ki fs T 1 (fun _ => 0) (cs_u (fun _ => 0) 0 1) (fun _ => 0) (fun _ => 0) (fun _ => 0) 0 := by
  have h1 := G.1
  refine ⟨fun b hb => ?_, fun i hi => ⟨show 0 < nb by omega, cs_us⟩, fun i j hij hj => by omega, fun b hb hm => ⟨0, by omega, ?_⟩, fun b j hb hj => absurd hj (Nat.not_lt_zero _), ⟨fun _ _ _ _ _ => rfl, rfl⟩, ?_, ?_, by rw [cs_us]; exact Nat.le_refl _⟩
  · by_cases e : b = 0
    · subst e; rw [cs_us]; exact ⟨by omega, Nat.zero_le _, fun _ => rfl, fun h => absurd h (by decide)⟩
    · rw [cs_un e]; exact ⟨Nat.zero_le _, Nat.zero_le _, fun _ => rfl, fun h => absurd h (show ¬ (0 = 2) by decide)⟩
  · by_cases e : b = 0
    · exact e.symm
    · rw [cs_un e] at hm; omega
  · have := cs_np (n := nb) (k := 0) (f := fun b => if cs_u (fun _ => 0) 0 1 b = 1 then 1 else 0) (g := fun _ => 0) (by omega) (fun i _ hi => by simp only [cs_un hi]; rfl)
    rw [cs_nz (f := fun _ => 0) (fun _ _ => rfl)] at this
    simp only [cs_us] at this
    simp at this
    exact this.symm
  · refine (cs_nz (fun i _ => ?_)).symm
    by_cases e : i = 0
    · subst e; rw [cs_us]; rfl
    · rw [cs_un e]; rfl
section
variable {f_drafted f_blocks f_edges f_probed f_paths f_fresh f_x f_y f_steps : Int32} {a_op a_with a_kind a_target a_from a_to a_exit a_weights a_inTree a_back a_first a_probes a_joined a_order a_ahead a_met a_way a_ways a_adds a_begins a_hits a_cuts a_gone a_runs a_version a_counts a_known : Nat → Int32}
theorem cx_25 {nb : Nat} {fs : Nat → Nat} (hB : f_blocks = nI nb) (hnb : nb ≤ 12) (hf37 : ∀ b, b ≤ nb → fs b < 100) (hfi : ∀ b, b ≤ nb → a_first b = nI (fs b)) : ∀ d j a_met a_ahead, j + d = nb → (∀ i, i < j → a_met i = 0 ∧ a_ahead i = nI (fs i)) →
    ∃ me ah : Nat → Int32, (∀ i, i < nb → me i = 0 ∧ ah i = nI (fs i)) ∧
      ∀ post : SX → Prop, (∃ n74 : Nat, wX_findBack_74 post f_drafted f_blocks f_edges f_probed f_paths f_fresh f_x f_y f_steps n74 1 a_op a_with a_kind a_target a_from a_to a_exit a_weights a_inTree a_back a_first a_probes a_joined a_order ah (upd me 0 1) (upd a_way 0 0) a_ways a_adds a_begins a_hits a_cuts a_gone a_runs a_version a_counts a_known) → wX_findBack_25 post f_drafted f_blocks f_edges f_probed f_paths f_fresh f_x f_y f_steps (d + 1) (nI j) a_op a_with a_kind a_target a_from a_to a_exit a_weights a_inTree a_back a_first a_probes a_joined a_order a_ahead a_met a_way a_ways a_adds a_begins a_hits a_cuts a_gone a_runs a_version a_counts a_known := by
  intro d
  induction d with
  | zero =>
    intro j a_met a_ahead hj hI
    have e : j = nb := by omega
    subst e
    exact ⟨a_met, a_ahead, hI, fun post hp => br_t (by rw [hB]; exact nI_le (Nat.le_refl _) (by omega)) (nm_r (congrArg (upd a_way 0) (cd_nb' (n := 0) (by omega))) (nm_r (congrArg (upd a_met 0) (cd_nb' (n := 1) (by omega))) hp))⟩
  | succ d ih =>
    intro j a_met a_ahead hj hI
    obtain ⟨me, ah, h1, h2⟩ := ih (j + 1) (upd a_met j 0) (upd a_ahead j (nI (fs j))) (by omega) (fun i hi => by
      by_cases e : i = j
      · subst e; exact ⟨pk_us, pk_us⟩
      · rw [pk_un e, pk_un e]; exact hI i (by omega))
    refine ⟨me, ah, h1, fun post hp => br_f (by rw [hB]; exact nI_ge (by omega) (by omega)) ⟨vp_in_nI (by omega) (by omega), nm_r (cd_up rfl (by omega) (cd_nb' (n := 0) (by omega))) ⟨vp_in_nI (by omega) (by omega), vp_in_nI (by omega) (by omega), nm_r (cd_up rfl (by omega) ?_) (nm_r (nI_1 j) (h2 post hp))⟩⟩⟩
    rw [cd_rd rfl (by omega) (hfi j (by omega)), cd_nb' (by have := hf37 j (by omega); omega)]
end
section
variable {f_drafted f_blocks f_edges f_probed f_paths f_fresh f_x f_y f_steps : Int32} {a_op a_with a_kind a_target a_from a_to a_exit a_weights a_inTree a_back a_first a_probes a_joined a_order a_ahead a_met a_way a_ways a_adds a_begins a_hits a_cuts a_gone a_runs a_version a_counts a_known : Nat → Int32} {g_made g_blocks g_edges g_paths g_many g_lastX g_lastY g_lastBlocks : Int32} {b_op b_number b_kind b_target b_from b_to b_exit b_weight b_firstEdge b_tree b_back b_row b_length b_gone b_done b_went b_cut b_kept b_mark b_way b_tried b_stack : Nat → Int32}
theorem cx_findBack {nb : Nat} {ki fs F T : Nat → Nat} (G : cg_GR nb ki fs F T) (hB : f_blocks = nI nb) (hE : f_edges = nI (fs nb + 1)) (hE' : g_edges = nI (fs nb + 1)) (hfi : ∀ b, b ≤ nb → a_first b = nI (fs b)) (hto : ∀ e, e < fs nb + 1 → a_to e = nI (T e))
    (hki : ∀ b, b < nb → b_kind (12 + b) = nI (ki b)) (hyf : ∀ b, b < nb → b_firstEdge b = nI (fs b)) (hyt : ∀ e, e < fs nb + 1 → b_to e = cd_cv (T e)) :
    ∃ (m' bk' rk' : Nat → Nat) (w ah me ba st ti ma bb : Nat → Int32), cg_DF nb ki fs T m' bk' rk' ∧ cr_K (fs nb + 1) bk' ba bb ∧ (∀ b, b < nb → me b = nI (m' b)) ∧
      (∀ post : SX → Prop, post (f_drafted, f_blocks, f_edges, f_probed, f_paths, f_fresh, f_x, f_y, f_steps, a_op, a_with, a_kind, a_target, a_from, a_to, a_exit, a_weights, a_inTree, ba, a_first, a_probes, a_joined, a_order, ah, me, w, a_ways, a_adds, a_begins, a_hits, a_cuts, a_gone, a_runs, a_version, a_counts, a_known) → wpX_findBack post (f_drafted, f_blocks, f_edges, f_probed, f_paths, f_fresh, f_x, f_y, f_steps, a_op, a_with, a_kind, a_target, a_from, a_to, a_exit, a_weights, a_inTree, a_back, a_first, a_probes, a_joined, a_order, a_ahead, a_met, a_way, a_ways, a_adds, a_begins, a_hits, a_cuts, a_gone, a_runs, a_version, a_counts, a_known)) ∧
      (∀ post : SY → Prop, post (g_made, g_blocks, g_edges, g_paths, g_many, g_lastX, g_lastY, g_lastBlocks, b_op, b_number, b_kind, b_target, b_from, b_to, b_exit, b_weight, b_firstEdge, b_tree, bb, b_row, b_length, b_gone, b_done, b_went, b_cut, b_kept, ma, b_way, ti, st) → wpY_findBack post (g_made, g_blocks, g_edges, g_paths, g_many, g_lastX, g_lastY, g_lastBlocks, b_op, b_number, b_kind, b_target, b_from, b_to, b_exit, b_weight, b_firstEdge, b_tree, b_back, b_row, b_length, b_gone, b_done, b_went, b_cut, b_kept, b_mark, b_way, b_tried, b_stack)) := by
  have hnb := G.2.1
  have hnb1 := G.1
  have hne := cg_ne G
  have hz1 := cw_f0 0 (fs nb + 1) a_back
  have hz2 := cw_f0 0 (fs nb + 1) b_back
  have hz3 := cw_f0 0 13 b_mark
  generalize hA : cw_f (fun j => j) (fun _ _ => 0) (fs nb + 1) 0 a_back = A at hz1
  generalize hC : cw_f (fun j => j) (fun _ _ => 0) (fs nb + 1) 0 b_back = C at hz2
  generalize hM : cw_f (fun j => j) (fun _ _ => 0) 13 0 b_mark = M at hz3
  obtain ⟨me0, ah0, g1, g2⟩ := cx_25 (a_back := A) hB hnb (fun b hb => by have := cg_fs3 G b hb; omega) hfi nb 0 a_met a_ahead (by omega) (fun i hi => by omega)
  obtain ⟨m', bk', rk', w, ah, me, ba, st, ti, ma, bb, q1, q2, q3, qX, qY⟩ := cx_loop (f_blocks := f_blocks) G hfi hto hki hyf hyt (cg_mu nb ki (cs_u (fun _ => 0) 0 1) (fun _ => 0) + 1) 1 _ _ _ _ _ _ (upd a_way 0 0) ah0 (upd me0 0 1) A (upd b_stack 0 0) (upd b_tried 0 0) (upd M 0 1) C (by omega) (cg_DI0 G)
    ⟨fun i hi => by have e : i = 0 := by omega
                    subst e; exact pk_us, fun b hb => cd_pu rfl (fun _ => (g1 b hb).1), fun b hb _ => (g1 b hb).2, fun e he => hz1.1 e he⟩
    ⟨fun i hi => by have e : i = 0 := by omega
                    subst e; exact pk_us, fun i hi => by have e : i = 0 := by omega
                                                         subst e; exact pk_us, fun b hb => cd_pu rfl (fun _ => hz3.1 b (by omega)), fun e he => hz2.1 e he⟩
  refine ⟨m', bk', rk', w, ah, me, ba, st, ti, ma, bb, q1, q2, q3, fun post hp => ?_, fun post hp => ?_⟩
  · refine Exists.intro (fs nb + 1 + 1) (cw_fl (W := fun n x a => wX_findBack_2 post f_drafted f_blocks f_edges f_probed f_paths f_fresh f_x f_y f_steps n x a_op a_with a_kind a_target a_from a_to a_exit a_weights a_inTree a a_first a_probes a_joined a_order a_ahead a_met a_way a_ways a_adds a_begins a_hits a_cuts a_gone a_runs a_version a_counts a_known) (Q := fun a => ∃ n25 : Nat, wX_findBack_25 post f_drafted f_blocks f_edges f_probed f_paths f_fresh f_x f_y f_steps n25 0 a_op a_with a_kind a_target a_from a_to a_exit a_weights a_inTree a a_first a_probes a_joined a_order a_ahead a_met a_way a_ways a_adds a_begins a_hits a_cuts a_gone a_runs a_version a_counts a_known) (fun j => j) (fun _ _ => 0) (fs nb + 1) ?_ ?_ (fs nb + 1) 0 a_back (by omega) ?_)
    · intro n a hQ; exact br_t (by rw [hE]; exact nI_le (Nat.le_refl _) (by omega)) hQ
    · intro n j a hj h; exact br_f (by rw [hE]; exact nI_ge hj (by omega)) ⟨vp_in_nI (by omega) (by omega), nm_r (cd_up rfl (by omega) cd_z0) (nm_r (nI_1 j) h)⟩
    · rw [hA]; exact ⟨nb + 1, g2 post (qX post hp)⟩
  · refine Exists.intro (fs nb + 1 + 1) (cw_fl (W := fun n x a => wY_findBack_2 post g_made g_blocks g_edges g_paths g_many g_lastX g_lastY g_lastBlocks n x b_op b_number b_kind b_target b_from b_to b_exit b_weight b_firstEdge b_tree a b_row b_length b_gone b_done b_went b_cut b_kept b_mark b_way b_tried b_stack) (Q := fun a => ∃ n25 : Nat, wY_findBack_25 post g_made g_blocks g_edges g_paths g_many g_lastX g_lastY g_lastBlocks n25 0 b_op b_number b_kind b_target b_from b_to b_exit b_weight b_firstEdge b_tree a b_row b_length b_gone b_done b_went b_cut b_kept b_mark b_way b_tried b_stack) (fun j => j) (fun _ _ => 0) (fs nb + 1) ?_ ?_ (fs nb + 1) 0 b_back (by omega) ?_)
    · intro n a hQ; exact br_t (by rw [hE']; exact nI_le (Nat.le_refl _) (by omega)) hQ
    · intro n j a hj h; exact br_f (by rw [hE']; exact nI_ge hj (by omega)) ⟨vp_in_nI (by omega) (by omega), nm_r (cd_up rfl (by omega) cd_z0) (nm_r (nI_1 j) h)⟩
    rw [hC]
    refine Exists.intro 14 (cw_fl (W := fun n x a => wY_findBack_25 post g_made g_blocks g_edges g_paths g_many g_lastX g_lastY g_lastBlocks n x b_op b_number b_kind b_target b_from b_to b_exit b_weight b_firstEdge b_tree C b_row b_length b_gone b_done b_went b_cut b_kept a b_way b_tried b_stack) (Q := fun a => ∃ n67 : Nat, wY_findBack_67 post g_made g_blocks g_edges g_paths g_many g_lastX g_lastY g_lastBlocks n67 1 b_op b_number b_kind b_target b_from b_to b_exit b_weight b_firstEdge b_tree C b_row b_length b_gone b_done b_went b_cut b_kept (upd a 0 1) b_way (upd b_tried 0 0) (upd b_stack 0 0)) (fun j => j) (fun _ _ => 0) 13 ?_ ?_ 13 0 b_mark (by omega) ?_)
    · intro n a hQ; exact br_t (nI_le (a := 13) (Nat.le_refl _) (by omega)) (nm_e (nm_e (nm_e hQ)))
    · intro n j a hj h; exact br_f (nI_ge (b := 13) hj (by omega)) ⟨vp_in_nI (by omega) (by omega), nm_r (cd_up rfl (by omega) rfl) (nm_r (nI_1 j) h)⟩
    · rw [hM]; exact qY post hp
end
end
section
/-! countPaths: settle -/
/-- block b is settled -/
def cq_St (ki fs T bk rk : Nat → Nat) (ways adds : Nat → Int32) (b : Nat) : Prop :=
  ∃ s, s ≤ 301 + 300 * rk b ∧ ways b = nI s ∧ cp_sr s (cp_LB ki fs T bk b).length ∧
    ∀ j, j < cg_ex (ki b) → ∃ a, a < 10000 ∧ adds (fs b + j) = nI a ∧ cp_sr a (cp_fl (fun i => cp_LE ki fs T bk (fs b + i)) j).length
def cq_CI (nb : Nat) (ki fs T bk m rk : Nat → Nat) (ways adds : Nat → Int32) : Prop :=
  ∀ b, b < nb → (m b = 0 → ways b = -2) ∧ (m b = 2 → ways b = -1 ∨ cq_St ki fs T bk rk ways adds b)
/-- what an edge adds to the sum -/
def cq_w (T bk : Nat → Nat) (ways : Nat → Int32) (e w : Nat) : Prop := ((bk e = 1 ∨ T e = 12) ∧ w = 1) ∨ (bk e = 0 ∧ T e < 12 ∧ ways (T e) = nI w)
section
variable {f_drafted f_blocks f_edges f_probed f_paths f_fresh f_x f_y f_steps : Int32} {a_op a_with a_kind a_target a_from a_to a_exit a_weights a_inTree a_back a_first a_probes a_joined a_order a_ahead a_met a_way a_ways a_adds a_begins a_hits a_cuts a_gone a_runs a_version a_counts a_known : Nat → Int32} {post : Int32 → SX → Prop} {n b e s w : Nat}
theorem cq_64 (hs : s < 20000) (hw : w < 20000) (he : e < 100) (h : wX_settle_9 post (nI b) f_drafted f_blocks f_edges f_probed f_paths f_fresh f_x f_y f_steps n (nI (if s ≤ 300 then s + w else s)) (nI (e + 1)) a_op a_with a_kind a_target a_from a_to a_exit a_weights a_inTree a_back a_first a_probes a_joined a_order a_ahead a_met a_way a_ways a_adds a_begins a_hits a_cuts a_gone a_runs a_version a_counts a_known) : wX_settle_64 post (wX_settle_9 post (nI b) f_drafted f_blocks f_edges f_probed f_paths f_fresh f_x f_y f_steps n) (nI b) (nI s) (nI e) (nI w) f_drafted f_blocks f_edges f_probed f_paths f_fresh f_x f_y f_steps a_op a_with a_kind a_target a_from a_to a_exit a_weights a_inTree a_back a_first a_probes a_joined a_order a_ahead a_met a_way a_ways a_adds a_begins a_hits a_cuts a_gone a_runs a_version a_counts a_known :=
  br_t (nI_pos' (by omega)) (pk_lt 300 s (fun h1 => nm_r (nI_1 e) (by rw [if_neg (by omega)] at h; exact h)) (fun h1 => nm_r (nI_add s w) (nm_r (nI_1 e) (by rw [if_pos (by omega)] at h; exact h))))
theorem cq_step {T bk : Nat → Nat} {f : Nat} (hb : b < 12) (he : e < 37) (hf' : f < 100) (hef : e < f) (hs : s < 20000) (hw : w < 20000) (hf : a_first (b + 1) = nI f) (hto : a_to e = nI (T e)) (hT : T e ≤ 12) (hbk : a_back e = nI (bk e)) (hbk1 : bk e ≤ 1) (hW : cq_w T bk a_ways e w)
    (h : wX_settle_9 post (nI b) f_drafted f_blocks f_edges f_probed f_paths f_fresh f_x f_y f_steps n (nI (if s ≤ 300 then s + w else s)) (nI (e + 1)) a_op a_with a_kind a_target a_from a_to a_exit a_weights a_inTree a_back a_first a_probes a_joined a_order a_ahead a_met a_way a_ways (upd a_adds e (nI s)) a_begins a_hits a_cuts a_gone a_runs a_version a_counts a_known) : wX_settle_9 post (nI b) f_drafted f_blocks f_edges f_probed f_paths f_fresh f_x f_y f_steps (n + 1) (nI s) (nI e) a_op a_with a_kind a_target a_from a_to a_exit a_weights a_inTree a_back a_first a_probes a_joined a_order a_ahead a_met a_way a_ways a_adds a_begins a_hits a_cuts a_gone a_runs a_version a_counts a_known := by
  refine And.intro (pk_in (b + 1) 13 (by omega) (hx := nI_1 b)) (br_f (by rw [cd_rd (nI_1 b) (by omega) hf]; exact nI_ge hef (by omega)) ⟨vp_in_nI he (by omega), nm_r (cd_up rfl (by omega) (cd_ns (by omega))) ⟨vp_in_nI he (by omega), ?_⟩⟩)
  rcases hW with ⟨h1, rfl⟩ | ⟨h1, h2, h3⟩
  · have h' := cq_64 (post := post) (n := n) (b := b) (a_adds := upd a_adds e (nI s)) hs hw (by omega) h
    by_cases hb0 : bk e = 0
    · refine br_t (by rw [cd_rd rfl (by omega) hbk, hb0]; rfl) ⟨vp_in_nI he (by omega), br_t ?_ h'⟩
      rw [cd_rd rfl (by omega) hto, show T e = 12 by omega]; rfl
    · refine br_f (by rw [cd_rd rfl (by omega) hbk]; exact nI_ne0 (by omega) (by omega)) h'
  · have h' := cq_64 (post := post) (n := n) (b := b) (a_adds := upd a_adds e (nI s)) hs hw (by omega) h
    refine br_t (by rw [cd_rd rfl (by omega) hbk, h1]; rfl) ⟨vp_in_nI he (by omega), br_f ?_ ⟨vp_in_nI he (by omega), pk_in (T e) 12 h2 (hx := cd_rd rfl (by omega) hto), ?_⟩⟩
    · rw [cd_rd rfl (by omega) hto]; intro h4; have := cd_im (b := 12) h4 (by omega) (by omega); omega
    · rw [cd_rd (a := a_ways) (cd_rd rfl (by omega) hto) (by omega) h3]; exact h'
theorem cq_fail {T bk : Nat → Nat} {f : Nat} (hb : b < 12) (he : e < 37) (hf' : f < 100) (hef : e < f) (hs : s < 20000) (hf : a_first (b + 1) = nI f) (hto : a_to e = nI (T e)) (hT : T e < 12) (hbk : a_back e = nI (bk e)) (hbk0 : bk e = 0) (hW : a_ways (T e) = -1)
    (h : post 0 (f_drafted, f_blocks, f_edges, f_probed, f_paths, f_fresh, f_x, f_y, f_steps, a_op, a_with, a_kind, a_target, a_from, a_to, a_exit, a_weights, a_inTree, a_back, a_first, a_probes, a_joined, a_order, a_ahead, a_met, a_way, a_ways, upd a_adds e (nI s), a_begins, a_hits, a_cuts, a_gone, a_runs, a_version, a_counts, a_known)) : wX_settle_9 post (nI b) f_drafted f_blocks f_edges f_probed f_paths f_fresh f_x f_y f_steps (n + 1) (nI s) (nI e) a_op a_with a_kind a_target a_from a_to a_exit a_weights a_inTree a_back a_first a_probes a_joined a_order a_ahead a_met a_way a_ways a_adds a_begins a_hits a_cuts a_gone a_runs a_version a_counts a_known := by
  refine And.intro (pk_in (b + 1) 13 (by omega) (hx := nI_1 b)) (br_f (by rw [cd_rd (nI_1 b) (by omega) hf]; exact nI_ge hef (by omega)) ⟨vp_in_nI he (by omega), nm_r (cd_up rfl (by omega) (cd_ns (by omega))) ⟨vp_in_nI he (by omega), ?_⟩⟩)
  refine br_t (by rw [cd_rd rfl (by omega) hbk, hbk0]; rfl) ⟨vp_in_nI he (by omega), br_f ?_ ⟨vp_in_nI he (by omega), pk_in (T e) 12 hT (hx := cd_rd rfl (by omega) hto), ?_⟩⟩
  · rw [cd_rd rfl (by omega) hto]; intro h4; have := cd_im (b := 12) h4 (by omega) (by omega); omega
  · rw [cd_rd (a := a_ways) (cd_rd rfl (by omega) hto) (by omega) hW]
    exact br_f (by decide) h
/-- the loop of settle -/
theorem cq_lp {nb : Nat} {ki fs F T m bk rk : Nat → Nat} (G : cg_GR nb ki fs F T) (D : cg_DF nb ki fs T m bk rk) (hfi : ∀ b, b ≤ nb → a_first b = nI (fs b)) (hto : ∀ e, e < fs nb + 1 → a_to e = nI (T e)) (hba : ∀ e, e < fs nb + 1 → a_back e = nI (bk e))
    (hb : b < nb) (hm : m b = 2) (hW : ∀ c, c < nb → m c = 2 → a_ways c = -1 ∨ ∃ x, x ≤ 301 + 300 * rk c ∧ a_ways c = nI x ∧ cp_sr x (cp_LB ki fs T bk c).length) :
    ∀ r j s a_adds, j + r = cg_ex (ki b) → s ≤ 301 + 300 * rk b → cp_sr s (cp_fl (fun i => cp_LE ki fs T bk (fs b + i)) j).length →
      (∀ i, i < j → ∃ a, a < 10000 ∧ a_adds (fs b + i) = nI a ∧ cp_sr a (cp_fl (fun i => cp_LE ki fs T bk (fs b + i)) i).length) →
      (∃ ways adds : Nat → Int32, (∀ c, c ≠ b → ways c = a_ways c) ∧ (∀ x, x < fs b ∨ fs (b + 1) ≤ x → adds x = a_adds x) ∧ cq_St ki fs T bk rk ways adds b ∧
        ∀ post : Int32 → SX → Prop, post 1 (f_drafted, f_blocks, f_edges, f_probed, f_paths, f_fresh, f_x, f_y, f_steps, a_op, a_with, a_kind, a_target, a_from, a_to, a_exit, a_weights, a_inTree, a_back, a_first, a_probes, a_joined, a_order, a_ahead, a_met, a_way, ways, adds, a_begins, a_hits, a_cuts, a_gone, a_runs, a_version, a_counts, a_known) → wX_settle_9 post (nI b) f_drafted f_blocks f_edges f_probed f_paths f_fresh f_x f_y f_steps (r + 1) (nI s) (nI (fs b + j)) a_op a_with a_kind a_target a_from a_to a_exit a_weights a_inTree a_back a_first a_probes a_joined a_order a_ahead a_met a_way a_ways a_adds a_begins a_hits a_cuts a_gone a_runs a_version a_counts a_known) ∨
      (∃ adds : Nat → Int32, (∀ x, x < fs b ∨ fs (b + 1) ≤ x → adds x = a_adds x) ∧ (∃ i, i < cg_ex (ki b) ∧ bk (fs b + i) ≠ 1 ∧ T (fs b + i) ≠ 12 ∧ a_ways (T (fs b + i)) = -1) ∧
        ∀ post : Int32 → SX → Prop, post 0 (f_drafted, f_blocks, f_edges, f_probed, f_paths, f_fresh, f_x, f_y, f_steps, a_op, a_with, a_kind, a_target, a_from, a_to, a_exit, a_weights, a_inTree, a_back, a_first, a_probes, a_joined, a_order, a_ahead, a_met, a_way, a_ways, adds, a_begins, a_hits, a_cuts, a_gone, a_runs, a_version, a_counts, a_known) → wX_settle_9 post (nI b) f_drafted f_blocks f_edges f_probed f_paths f_fresh f_x f_y f_steps (r + 1) (nI s) (nI (fs b + j)) a_op a_with a_kind a_target a_from a_to a_exit a_weights a_inTree a_back a_first a_probes a_joined a_order a_ahead a_met a_way a_ways a_adds a_begins a_hits a_cuts a_gone a_runs a_version a_counts a_known) := by
  have hnb := G.2.1
  have hne := cg_ne G
  have hrk := D.2.2.1 b hb hm
  have hfs := (G.2.2.2.1 b hb).2
  have hfle := cg_mono G (a := b + 1) nb (by omega) (Nat.le_refl _)
  have hff := hfi (b + 1) (by omega)
  intro r
  induction r with
  | zero =>
    intro j s a_adds hj hs hsr hA
    refine Or.inl ⟨upd a_ways b (nI s), a_adds, fun c hc => pk_un hc, fun _ _ => rfl, ⟨s, hs, pk_us, ?_, fun i hi => hA i (by omega)⟩, fun post hp => ?_⟩
    · rw [cp_eq G D hb hm, ← show j = cg_ex (ki b) by omega]; exact hsr
    · exact And.intro (pk_in (b + 1) 13 (by omega) (hx := nI_1 b)) (br_t (by rw [cd_rd (nI_1 b) (by omega) hff]; exact nI_le (by omega) (by omega)) ⟨vp_in_nI (by omega) (by omega), nm_r (cd_up rfl (by omega) (cd_ns (by omega))) hp⟩)
  | succ r ih =>
    intro j s a_adds hj hs hsr hA
    have hje : j < cg_ex (ki b) := by omega
    have hlt := cg_lt G hb hje
    have hbk01 : bk (fs b + j) ≤ 1 := by
      rcases cg_bk G D (e := fs b + j) (by omega) with h | ⟨h, _⟩ <;> omega
    have key : (∃ w, w ≤ 1 + 300 * rk b ∧ cq_w T bk a_ways (fs b + j) w ∧ cp_sr w (cp_LE ki fs T bk (fs b + j)).length) ∨ (bk (fs b + j) ≠ 1 ∧ T (fs b + j) < nb ∧ a_ways (T (fs b + j)) = -1) := by
      by_cases he : bk (fs b + j) = 1 ∨ T (fs b + j) = 12
      · exact Or.inl ⟨1, by omega, Or.inl ⟨he, rfl⟩, by rw [cp_LEe he]; exact Or.inl rfl⟩
      · have he1 : bk (fs b + j) ≠ 1 := fun h => he (Or.inl h)
        have he2 : T (fs b + j) ≠ 12 := fun h => he (Or.inr h)
        rcases D.2.2.2.1 b j hb hm hje with ⟨h, _⟩ | ⟨hT, hmT, h⟩
        · exact absurd h he2
        · have hrT : rk (T (fs b + j)) < rk b := by
            rcases h with h | h
            · exact absurd h he1
            · exact h.2
          rcases hW _ hT hmT with hu | ⟨x, hx1, hx2, hx3⟩
          · exact Or.inr ⟨he1, hT, hu⟩
          · exact Or.inl ⟨x, by omega, Or.inr ⟨by omega, by omega, hx2⟩, by rw [cp_LEn he1 he2, List.length_map]; exact hx3⟩
    rcases key with ⟨w, hw, hcw, hsw⟩ | ⟨he1, hT, hu⟩
    · have := ih (j + 1) (if s ≤ 300 then s + w else s) (upd a_adds (fs b + j) (nI s)) (by omega) (by split <;> omega) (by
        rw [cp_fls]
        split
        · exact cp_sra hsr hsw (by assumption)
        · exact cp_srb hsr (by omega) _) (fun i hi => by
        by_cases ei : i = j
        · subst ei; exact ⟨s, by omega, pk_us, hsr⟩
        · rw [pk_un (by omega)]; exact hA i (by omega))
      rcases this with ⟨ways, adds, q1, q2, q3, q4⟩ | ⟨adds, q1, q2, q3⟩
      · refine Or.inl ⟨ways, adds, q1, fun x hx => by rw [q2 x hx, pk_un (by omega)], q3, fun post hp => ?_⟩
        exact cq_step (T := T) (bk := bk) (f := fs (b + 1)) (w := w) (by omega) (by omega) (by omega) (by omega) (by omega) (by omega) hff (hto _ (by omega)) (cg_FT12 G (by omega)).2 (hba _ (by omega)) hbk01 hcw (q4 post hp)
      · refine Or.inr ⟨adds, fun x hx => by rw [q1 x hx, pk_un (by omega)], q2, fun post hp => ?_⟩
        exact cq_step (T := T) (bk := bk) (f := fs (b + 1)) (w := w) (by omega) (by omega) (by omega) (by omega) (by omega) (by omega) hff (hto _ (by omega)) (cg_FT12 G (by omega)).2 (hba _ (by omega)) hbk01 hcw (q3 post hp)
    · refine Or.inr ⟨upd a_adds (fs b + j) (nI s), fun x hx => pk_un (by omega), ⟨j, hje, he1, by omega, hu⟩, fun post hp => ?_⟩
      exact cq_fail (T := T) (bk := bk) (f := fs (b + 1)) (by omega) (by omega) (by omega) (by omega) (by omega) hff (hto _ (by omega)) (by omega) (hba _ (by omega)) (by omega) hu hp
end
end
section
/-! countPaths: the passes -/
theorem cq_b {nb : Nat} {ki fs T bk m rk : Nat → Nat} {ways adds ways' adds' : Nat → Int32} {b c : Nat} (h : cq_St ki fs T bk rk ways adds c) (hw : ways' c = ways c) (ha : ∀ j, j < cg_ex (ki c) → adds' (fs c + j) = adds (fs c + j)) : cq_St ki fs T bk rk ways' adds' c := by
  obtain ⟨s, h1, h2, h3, h4⟩ := h
  refine ⟨s, h1, hw.trans h2, h3, fun j hj => ?_⟩
  obtain ⟨a, q1, q2, q3⟩ := h4 j hj
  exact ⟨a, q1, (ha j hj).trans q2, q3⟩
def cq_un (nb : Nat) (ways : Nat → Int32) : Nat := cs_n nb (fun b => if ways b = -1 then 1 else 0)
/-- a met block that isn't settled waits for another one -/
def cq_wt (ki fs T bk : Nat → Nat) (ways : Nat → Int32) (b : Nat) : Prop := ∃ i, i < cg_ex (ki b) ∧ bk (fs b + i) ≠ 1 ∧ T (fs b + i) ≠ 12 ∧ ways (T (fs b + i)) = -1
section
variable {f_drafted f_blocks f_edges f_probed f_paths f_fresh f_x f_y f_steps : Int32} {a_op a_with a_kind a_target a_from a_to a_exit a_weights a_inTree a_back a_first a_probes a_joined a_order a_ahead a_met a_way a_ways a_adds a_begins a_hits a_cuts a_gone a_runs a_version a_counts a_known : Nat → Int32}
/-- settle of an open block -/
theorem cq_settle {nb : Nat} {ki fs F T m bk rk : Nat → Nat} (G : cg_GR nb ki fs F T) (D : cg_DF nb ki fs T m bk rk) (hfi : ∀ b, b ≤ nb → a_first b = nI (fs b)) (hto : ∀ e, e < fs nb + 1 → a_to e = nI (T e)) (hba : ∀ e, e < fs nb + 1 → a_back e = nI (bk e))
    {b : Nat} (hb : b < nb) (hm : m b = 2) (hu : a_ways b = -1) (I : cq_CI nb ki fs T bk m rk a_ways a_adds) :
    (∃ ways adds : Nat → Int32, (∀ c, c ≠ b → ways c = a_ways c) ∧ ways b ≠ -1 ∧ cq_CI nb ki fs T bk m rk ways adds ∧ ∀ post : Int32 → SX → Prop, post 1 (f_drafted, f_blocks, f_edges, f_probed, f_paths, f_fresh, f_x, f_y, f_steps, a_op, a_with, a_kind, a_target, a_from, a_to, a_exit, a_weights, a_inTree, a_back, a_first, a_probes, a_joined, a_order, a_ahead, a_met, a_way, ways, adds, a_begins, a_hits, a_cuts, a_gone, a_runs, a_version, a_counts, a_known) → wpX_settle post (f_drafted, f_blocks, f_edges, f_probed, f_paths, f_fresh, f_x, f_y, f_steps, a_op, a_with, a_kind, a_target, a_from, a_to, a_exit, a_weights, a_inTree, a_back, a_first, a_probes, a_joined, a_order, a_ahead, a_met, a_way, a_ways, a_adds, a_begins, a_hits, a_cuts, a_gone, a_runs, a_version, a_counts, a_known) (nI b)) ∨
    (∃ adds : Nat → Int32, cq_CI nb ki fs T bk m rk a_ways adds ∧ cq_wt ki fs T bk a_ways b ∧ ∀ post : Int32 → SX → Prop, post 0 (f_drafted, f_blocks, f_edges, f_probed, f_paths, f_fresh, f_x, f_y, f_steps, a_op, a_with, a_kind, a_target, a_from, a_to, a_exit, a_weights, a_inTree, a_back, a_first, a_probes, a_joined, a_order, a_ahead, a_met, a_way, a_ways, adds, a_begins, a_hits, a_cuts, a_gone, a_runs, a_version, a_counts, a_known) → wpX_settle post (f_drafted, f_blocks, f_edges, f_probed, f_paths, f_fresh, f_x, f_y, f_steps, a_op, a_with, a_kind, a_target, a_from, a_to, a_exit, a_weights, a_inTree, a_back, a_first, a_probes, a_joined, a_order, a_ahead, a_met, a_way, a_ways, a_adds, a_begins, a_hits, a_cuts, a_gone, a_runs, a_version, a_counts, a_known) (nI b)) := by
  have hnb := G.2.1
  have hne := cg_ne G
  have hfs := (G.2.2.2.1 b hb).2
  have hx := cq_lp (f_drafted := f_drafted) (f_blocks := f_blocks) (f_edges := f_edges) (f_probed := f_probed) (f_paths := f_paths) (f_fresh := f_fresh) (f_x := f_x) (f_y := f_y) (f_steps := f_steps) (a_op := a_op) (a_with := a_with) (a_kind := a_kind) (a_target := a_target) (a_from := a_from) (a_exit := a_exit) (a_weights := a_weights) (a_inTree := a_inTree) (a_probes := a_probes) (a_joined := a_joined) (a_order := a_order) (a_ahead := a_ahead) (a_met := a_met) (a_way := a_way) (a_begins := a_begins) (a_hits := a_hits) (a_cuts := a_cuts) (a_gone := a_gone) (a_runs := a_runs) (a_version := a_version) (a_counts := a_counts) (a_known := a_known)
    G D hfi hto hba hb hm (a_ways := a_ways) (fun c hc hmc => by
    rcases (I c hc).2 hmc with h | ⟨s, q1, q2, q3, _⟩
    · exact Or.inl h
    · exact Or.inr ⟨s, q1, q2, q3⟩) (cg_ex (ki b)) 0 0 a_adds (by omega) (by omega) (Or.inl rfl) (fun i hi => by omega)
  have hoth : ∀ c, c < nb → c ≠ b → ∀ j, j < cg_ex (ki c) → fs c + j < fs b ∨ fs (b + 1) ≤ fs c + j := by
    intro c hc hcb j hj
    have h1 := (G.2.2.2.1 c hc).2
    rcases Nat.lt_or_gt_of_ne hcb with h | h
    · have := cg_mono G (a := c + 1) b (by omega) (by omega); omega
    · have := cg_mono G (a := b + 1) c (by omega) (by omega); omega
  rcases hx with ⟨ways, adds, q1, q2, q3, q4⟩ | ⟨adds, q1, q2, q3⟩
  · refine Or.inl ⟨ways, adds, q1, ?_, fun c hc => ?_, fun post hp => And.intro (vp_in_nI (by omega) (by omega)) (nm_r (cd_rd rfl (by omega) (hfi b (by omega))) ⟨_, q4 post hp⟩)⟩
    · obtain ⟨s, h1, h2, _⟩ := q3
      have := D.2.2.1 b hb hm
      rw [h2]; exact cd_nn (by omega)
    · by_cases e : c = b
      · subst e; exact ⟨fun h => by omega, fun _ => Or.inr q3⟩
      · refine ⟨fun h => (q1 c e).trans ((I c hc).1 h), fun h => ?_⟩
        rcases (I c hc).2 h with h' | h'
        · exact Or.inl ((q1 c e).trans h')
        · exact Or.inr (cq_b (nb := nb) (m := m) (b := b) h' (q1 c e) (fun j hj => q2 _ (hoth c hc e j hj)))
  · refine Or.inr ⟨adds, fun c hc => ⟨(I c hc).1, fun h => ?_⟩, q2, fun post hp => And.intro (vp_in_nI (by omega) (by omega)) (nm_r (cd_rd rfl (by omega) (hfi b (by omega))) ⟨_, q3 post hp⟩)⟩
    rcases (I c hc).2 h with h' | h'
    · exact Or.inl h'
    · by_cases e : c = b
      · subst e; exact Or.inl hu
      · exact Or.inr (cq_b (nb := nb) (m := m) (b := b) h' rfl (fun j hj => q1 _ (hoth c hc e j hj)))
theorem cq_m1 (i : Nat) : nI i + (-1) = nI i - 1 := (Int32.sub_eq_add_neg ..).symm
/-- one pass over the blocks below i, downwards -/
theorem cq_pass {nb : Nat} {ki fs F T m bk rk : Nat → Nat} (G : cg_GR nb ki fs F T) (D : cg_DF nb ki fs T m bk rk) (hfi : ∀ b, b ≤ nb → a_first b = nI (fs b)) (hto : ∀ e, e < fs nb + 1 → a_to e = nI (T e)) (hba : ∀ e, e < fs nb + 1 → a_back e = nI (bk e)) :
    ∀ i f a_ways a_adds, i ≤ nb → f ≤ 1 → cq_CI nb ki fs T bk m rk a_ways a_adds →
      ∃ (f' : Nat) (ways adds : Nat → Int32), f' ≤ 1 ∧ cq_CI nb ki fs T bk m rk ways adds ∧ cq_un nb ways ≤ cq_un nb a_ways ∧ (f = 0 → f' = 1 → cq_un nb ways < cq_un nb a_ways) ∧
        (f' = 0 → f = 0 ∧ ways = a_ways ∧ ∀ b, b < i → m b = 2 → a_ways b = -1 → cq_wt ki fs T bk a_ways b) ∧
        ∀ post J, J (nI f') f_drafted f_blocks f_edges f_probed f_paths f_fresh f_x f_y f_steps a_op a_with a_kind a_target a_from a_to a_exit a_weights a_inTree a_back a_first a_probes a_joined a_order a_ahead a_met a_way ways adds a_begins a_hits a_cuts a_gone a_runs a_version a_counts a_known → wX_countPaths_53 post J (i + 1) (nI f) (nI i - 1) f_drafted f_blocks f_edges f_probed f_paths f_fresh f_x f_y f_steps a_op a_with a_kind a_target a_from a_to a_exit a_weights a_inTree a_back a_first a_probes a_joined a_order a_ahead a_met a_way a_ways a_adds a_begins a_hits a_cuts a_gone a_runs a_version a_counts a_known := by
  have hnb := G.2.1
  intro i
  induction i with
  | zero =>
    intro f a_ways a_adds hi hf I
    exact ⟨f, a_ways, a_adds, hf, I, Nat.le_refl _, fun h h' => by omega, fun h => ⟨h, rfl, fun b hb => by omega⟩, fun post J hp => br_t (by decide) hp⟩
  | succ i ih =>
    intro f a_ways a_adds hi hf I
    have hin : i < 12 := by omega
    by_cases hu : a_ways i = -1
    · have hm : m i = 2 := by
        rcases D.2.1 i (by omega) with h | h
        · have := (I i (by omega)).1 h
          rw [hu] at this; exact absurd this (by decide)
        · exact h
      rcases cq_settle (f_drafted := f_drafted) (f_blocks := f_blocks) (f_edges := f_edges) (f_probed := f_probed) (f_paths := f_paths) (f_fresh := f_fresh) (f_x := f_x) (f_y := f_y) (f_steps := f_steps) (a_op := a_op) (a_with := a_with) (a_kind := a_kind) (a_target := a_target) (a_from := a_from) (a_exit := a_exit) (a_weights := a_weights) (a_inTree := a_inTree) (a_probes := a_probes) (a_joined := a_joined) (a_order := a_order) (a_ahead := a_ahead) (a_met := a_met) (a_way := a_way) (a_begins := a_begins) (a_hits := a_hits) (a_cuts := a_cuts) (a_gone := a_gone) (a_runs := a_runs) (a_version := a_version) (a_counts := a_counts) (a_known := a_known)
        G D hfi hto hba (show i < nb by omega) hm hu I with ⟨ways, adds, q1, q2, q3, q4⟩ | ⟨adds, q1, q2, q3⟩
      · have hun : cq_un nb ways + 1 = cq_un nb a_ways := by
          unfold cq_un
          have := cs_np (n := nb) (k := i) (f := fun b => if ways b = -1 then 1 else 0) (g := fun b => if a_ways b = -1 then 1 else 0) (by omega) (fun c _ hc => by rw [q1 c hc])
          simp only [if_pos hu, if_neg q2] at this
          omega
        obtain ⟨f', ways', adds', p0, p1, p2, p3, p4, p5⟩ := ih 1 ways adds (by omega) (by omega) q3
        refine ⟨f', ways', adds', p0, p1, by omega, fun _ _ => by omega, fun h => absurd (p4 h).1 (by omega), fun post J hp => ?_⟩
        rw [nI_pred]
        refine br_f (nI_pos (by omega)) ⟨vp_in_nI hin (by omega), br_t (by rw [nI_clamp (by omega)]; exact hu) (q4 _ (br_f (by decide) ?_))⟩
        have hf01 : f = 0 ∨ f = 1 := by omega
        rcases hf01 with rfl | rfl
        · exact br_t rfl (br_f (by decide) (nm_r (cq_m1 i) (p5 post J hp)))
        · exact br_f (by decide) (nm_r (cq_m1 i) (p5 post J hp))
      · obtain ⟨f', ways', adds', p0, p1, p2, p3, p4, p5⟩ := ih f a_ways adds (by omega) hf q1
        refine ⟨f', ways', adds', p0, p1, p2, p3, fun h => ?_, fun post J hp => ?_⟩
        · obtain ⟨r1, r2, r3⟩ := p4 h
          refine ⟨r1, r2, fun b hb hmb hub => ?_⟩
          by_cases e : b = i
          · subst e; exact q2
          · exact r3 b (by omega) hmb hub
        · rw [nI_pred]
          refine br_f (nI_pos (by omega)) ⟨vp_in_nI hin (by omega), br_t (by rw [nI_clamp (by omega)]; exact hu) (q3 _ (br_t rfl ?_))⟩
          have hf01 : f = 0 ∨ f = 1 := by omega
          rcases hf01 with rfl | rfl
          · exact br_t rfl (br_t rfl (nm_r (cq_m1 i) (p5 post J hp)))
          · exact br_f (by decide) (nm_r (cq_m1 i) (p5 post J hp))
    · obtain ⟨f', ways', adds', p0, p1, p2, p3, p4, p5⟩ := ih f a_ways a_adds (by omega) hf I
      refine ⟨f', ways', adds', p0, p1, p2, p3, fun h => ?_, fun post J hp => ?_⟩
      · obtain ⟨r1, r2, r3⟩ := p4 h
        refine ⟨r1, r2, fun b hb hmb hub => ?_⟩
        by_cases e : b = i
        · subst e; exact absurd hub hu
        · exact r3 b (by omega) hmb hub
      · rw [nI_pred]
        refine br_f (nI_pos (by omega)) ⟨vp_in_nI hin (by omega), br_f (by rw [nI_clamp (by omega)]; exact hu) ?_⟩
        have hf01 : f = 0 ∨ f = 1 := by omega
        rcases hf01 with rfl | rfl
        · exact br_t rfl (br_t rfl (nm_r (cq_m1 i) (p5 post J hp)))
        · exact br_f (by decide) (nm_r (cq_m1 i) (p5 post J hp))
/-- the passes: all met blocks get settled -/
theorem cq_all {nb : Nat} {ki fs F T m bk rk : Nat → Nat} (G : cg_GR nb ki fs F T) (D : cg_DF nb ki fs T m bk rk) (hB : f_blocks = nI nb) (hfi : ∀ b, b ≤ nb → a_first b = nI (fs b)) (hto : ∀ e, e < fs nb + 1 → a_to e = nI (T e)) (hba : ∀ e, e < fs nb + 1 → a_back e = nI (bk e)) :
    ∀ N a_ways a_adds, cq_un nb a_ways < N → cq_CI nb ki fs T bk m rk a_ways a_adds →
      ∃ ways adds : Nat → Int32, (∀ b, b < nb → m b = 2 → cq_St ki fs T bk rk ways adds b) ∧
        ∀ post : SX → Prop, (∃ n111 : Nat, wX_countPaths_111 post f_drafted f_blocks f_edges f_probed f_fresh f_x f_y f_steps n111 0 0 a_op a_with a_kind a_target a_from a_to a_exit a_weights a_inTree a_back a_first a_probes a_joined a_order a_ahead a_met a_way ways adds a_begins a_hits a_cuts a_gone a_runs a_version a_counts a_known) → ∃ n40 : Nat, wX_countPaths_40 post n40 1 f_drafted f_blocks f_edges f_probed f_paths f_fresh f_x f_y f_steps a_op a_with a_kind a_target a_from a_to a_exit a_weights a_inTree a_back a_first a_probes a_joined a_order a_ahead a_met a_way a_ways a_adds a_begins a_hits a_cuts a_gone a_runs a_version a_counts a_known := by
  have hnb := G.2.1
  intro N
  induction N with
  | zero => intro w a h; omega
  | succ N ih =>
    intro a_ways a_adds hN I
    obtain ⟨f', ways, adds, p0, p1, p2, p3, p4, p5⟩ := cq_pass (f_drafted := f_drafted) (f_blocks := f_blocks) (f_edges := f_edges) (f_probed := f_probed) (f_paths := f_paths) (f_fresh := f_fresh) (f_x := f_x) (f_y := f_y) (f_steps := f_steps) (a_op := a_op) (a_with := a_with) (a_kind := a_kind) (a_target := a_target) (a_from := a_from) (a_exit := a_exit) (a_weights := a_weights) (a_inTree := a_inTree) (a_probes := a_probes) (a_joined := a_joined) (a_order := a_order) (a_ahead := a_ahead) (a_met := a_met) (a_way := a_way) (a_begins := a_begins) (a_hits := a_hits) (a_cuts := a_cuts) (a_gone := a_gone) (a_runs := a_runs) (a_version := a_version) (a_counts := a_counts) (a_known := a_known)
      G D hfi hto hba nb 0 a_ways a_adds (Nat.le_refl _) (by omega) I
    have hf01 : f' = 0 ∨ f' = 1 := by omega
    rcases hf01 with rfl | rfl
    · obtain ⟨_, r2, r3⟩ := p4 rfl
      refine ⟨ways, adds, ?_, fun post hp => ⟨2, br_f (by decide) (nm_r (congrArg (· - 1) hB) ⟨_, p5 post _ (br_t rfl hp)⟩)⟩⟩
      have hno : ∀ b, b < nb → m b = 2 → ways b ≠ -1 := by
        refine cp_ind D _ (fun b hb hm hi e => ?_)
        rw [r2] at e
        obtain ⟨i, h1, h2, h3, h4⟩ := r3 b hb hm e
        rw [← r2] at h4
        exact hi i h1 h2 h3 h4
      intro b hb hm
      rcases (p1 b hb).2 hm with h | h
      · exact absurd h (hno b hb hm)
      · exact h
    · obtain ⟨ways', adds', q1, q2⟩ := ih ways adds (by have := p3 rfl rfl; omega) p1
      refine ⟨ways', adds', q1, fun post hp => ?_⟩
      obtain ⟨n, hn⟩ := q2 post hp
      exact ⟨n + 1, br_f (by decide) (nm_r (congrArg (· - 1) hB) ⟨_, p5 post _ hn⟩)⟩
end
end
section
/-! countPaths: its first and last loops -/
section
variable {f_drafted f_blocks f_edges f_probed f_paths f_fresh f_x f_y f_steps : Int32} {a_op a_with a_kind a_target a_from a_to a_exit a_weights a_inTree a_back a_first a_probes a_joined a_order a_ahead a_met a_way a_ways a_adds a_begins a_hits a_cuts a_gone a_runs a_version a_counts a_known : Nat → Int32}
theorem cq_ini {nb : Nat} {m : Nat → Nat} (hnb : nb ≤ 12) (hB : f_blocks = nI nb) (hme : ∀ b, b < nb → a_met b = nI (m b)) (hm2 : ∀ b, b < nb → m b = 0 ∨ m b = 2) :
    ∀ d j a_ways, j + d = nb → (∀ b, b < j → (m b = 0 → a_ways b = -2) ∧ (m b = 2 → a_ways b = -1)) →
      ∃ ways : Nat → Int32, (∀ b, b < nb → (m b = 0 → ways b = -2) ∧ (m b = 2 → ways b = -1)) ∧
        ∀ post : SX → Prop, (∃ n40 : Nat, wX_countPaths_40 post n40 1 f_drafted f_blocks f_edges f_probed f_paths f_fresh f_x f_y f_steps a_op a_with a_kind a_target a_from a_to a_exit a_weights a_inTree a_back a_first a_probes a_joined a_order a_ahead a_met a_way ways a_adds a_begins a_hits a_cuts a_gone a_runs a_version a_counts a_known) → wX_countPaths_2 post f_drafted f_blocks f_edges f_probed f_paths f_fresh f_x f_y f_steps (d + 1) (nI j) a_op a_with a_kind a_target a_from a_to a_exit a_weights a_inTree a_back a_first a_probes a_joined a_order a_ahead a_met a_way a_ways a_adds a_begins a_hits a_cuts a_gone a_runs a_version a_counts a_known := by
  intro d
  induction d with
  | zero =>
    intro j a_ways hj hI
    have e : j = nb := by omega
    subst e
    exact ⟨a_ways, hI, fun post hp => br_t (by rw [hB]; exact nI_le (Nat.le_refl _) (by omega)) hp⟩
  | succ d ih =>
    intro j a_ways hj hI
    have hmj := hme j (by omega)
    rcases hm2 j (by omega) with h0 | h2
    · obtain ⟨ways, q1, q2⟩ := ih (j + 1) (upd a_ways j (-2)) (by omega) (fun b hb => by
        by_cases e : b = j
        · subst e; exact ⟨fun _ => pk_us, fun h => by omega⟩
        · rw [pk_un e]; exact hI b (by omega))
      refine ⟨ways, q1, fun post hp => br_f (by rw [hB]; exact nI_ge (by omega) (by omega)) ⟨vp_in_nI (by omega) (by omega), br_t (by rw [cd_rd rfl (by omega) hmj, h0]; rfl) ⟨vp_in_nI (by omega) (by omega), nm_r (cd_up rfl (by omega) cd_sm2) (nm_r (nI_1 j) (q2 post hp))⟩⟩⟩
    · obtain ⟨ways, q1, q2⟩ := ih (j + 1) (upd a_ways j (-1)) (by omega) (fun b hb => by
        by_cases e : b = j
        · subst e; exact ⟨fun h => by omega, fun _ => pk_us⟩
        · rw [pk_un e]; exact hI b (by omega))
      refine ⟨ways, q1, fun post hp => br_f (by rw [hB]; exact nI_ge (by omega) (by omega)) ⟨vp_in_nI (by omega) (by omega), br_f (by rw [cd_rd rfl (by omega) hmj]; exact nI_ne0 (by omega) (by omega)) ⟨vp_in_nI (by omega) (by omega), nm_r (cd_up rfl (by omega) cd_sm1) (nm_r (nI_1 j) (q2 post hp))⟩⟩⟩
/-- whether paths begin at b -/
theorem cq_132 {ne b : Nat} {T bk : Nat → Nat} (hne : ne < 38) (hb : b < 12) (hE : f_edges = nI ne) (hto : ∀ e, e < ne → a_to e = nI (T e)) (hT : ∀ e, e < ne → T e ≤ 12) (hba : ∀ e, e < ne → a_back e = nI (bk e)) (hb1 : ∀ e, e < ne → bk e ≤ 1)
    (post : SX → Prop) (J : Int32 → Int32 → (Nat → Int32) → (Nat → Int32) → (Nat → Int32) → (Nat → Int32) → (Nat → Int32) → (Nat → Int32) → (Nat → Int32) → (Nat → Int32) → (Nat → Int32) → (Nat → Int32) → (Nat → Int32) → (Nat → Int32) → (Nat → Int32) → (Nat → Int32) → (Nat → Int32) → (Nat → Int32) → (Nat → Int32) → (Nat → Int32) → (Nat → Int32) → (Nat → Int32) → (Nat → Int32) → (Nat → Int32) → (Nat → Int32) → (Nat → Int32) → (Nat → Int32) → (Nat → Int32) → (Nat → Int32) → Prop)
    (h0 : cp_s T bk ne b = 0 → wX_countPaths_195 post J (nI b) 0 (-1) (nI b) f_drafted f_blocks f_edges f_probed f_paths f_fresh f_x f_y f_steps a_op a_with a_kind a_target a_from a_to a_exit a_weights a_inTree a_back a_first a_probes a_joined a_order a_ahead a_met a_way a_ways a_adds a_begins a_hits a_cuts a_gone a_runs a_version a_counts a_known) (h1 : cp_s T bk ne b = 1 → wX_countPaths_195 post J (nI b) 1 f_paths (nI b) f_drafted f_blocks f_edges f_probed f_paths f_fresh f_x f_y f_steps a_op a_with a_kind a_target a_from a_to a_exit a_weights a_inTree a_back a_first a_probes a_joined a_order a_ahead a_met a_way a_ways a_adds a_begins a_hits a_cuts a_gone a_runs a_version a_counts a_known) :
    ∀ r e, e + r = ne → wX_countPaths_132 post J (nI b) f_drafted f_blocks f_edges f_probed f_paths f_fresh f_x f_y f_steps a_op a_with a_kind a_target a_from a_to a_exit a_weights a_inTree a_back a_first a_probes a_joined a_order a_ahead a_met a_way a_ways a_adds a_begins a_hits a_cuts a_gone a_runs a_version a_counts a_known (r + 1) (nI (cp_s T bk e b)) (nI e) := by
  intro r
  induction r with
  | zero =>
    intro e he
    have e1 : e = ne := by omega
    subst e1
    refine br_t (by rw [hE]; exact nI_le (Nat.le_refl _) (by omega)) ?_
    rcases cp_s01 T bk e b with h | h
    · rw [h]; exact br_t rfl (h0 h)
    · rw [h]; exact br_f (by decide) (h1 h)
  | succ r ih =>
    intro e he
    have hn := ih (e + 1) (by omega)
    have heq : cp_s T bk (e + 1) b = if bk e = 1 ∧ T e = b then 1 else cp_s T bk e b := rfl
    refine br_f (by rw [hE]; exact nI_ge (by omega) (by omega)) ?_
    rcases cp_s01 T bk e b with h | h
    · rw [h]
      refine br_t rfl ⟨vp_in_nI (by omega) (by omega), ?_⟩
      by_cases hb0 : bk e = 0
      · refine br_t (by rw [cd_rd rfl (by omega) (hba e (by omega)), hb0]; rfl) (nm_r (nI_1 e) ?_)
        rw [heq, if_neg (by omega), h] at hn; exact hn
      · have hb1' := hb1 e (by omega)
        refine br_f (by rw [cd_rd rfl (by omega) (hba e (by omega))]; exact nI_ne0 (by omega) (by omega)) ⟨vp_in_nI (by omega) (by omega), ?_⟩
        have := hT e (by omega)
        refine pk_eq (T e) b (fun ht => nm_r (nI_1 e) ?_) (fun ht => nm_r (nI_1 e) ?_) (hx := cd_rd rfl (by omega) (hto e (by omega)))
        · rw [heq, if_pos ⟨by omega, ht⟩] at hn; exact hn
        · rw [heq, if_neg (fun hh => ht hh.2), h] at hn; exact hn
    · rw [h]
      refine br_f (by decide) (nm_r (nI_1 e) ?_)
      have : cp_s T bk (e + 1) b = 1 := by rw [heq, h]; split <;> rfl
      rw [this] at hn; exact hn
theorem cq_111 {nb : Nat} {ki fs F T m bk rk : Nat → Nat} (G : cg_GR nb ki fs F T) (D : cg_DF nb ki fs T m bk rk) (hB : f_blocks = nI nb) (hE : f_edges = nI (fs nb + 1)) (hto : ∀ e, e < fs nb + 1 → a_to e = nI (T e)) (hba : ∀ e, e < fs nb + 1 → a_back e = nI (bk e))
    (hS : ∀ b, b < nb → m b = 2 → cq_St ki fs T bk rk a_ways a_adds b) :
    ∀ r b q a_begins, b + r = nb → q ≤ 4000 → cp_sr q (cp_LL nb ki fs T bk b).length →
      (∀ c, c < b → (cp_s T bk (fs nb + 1) c = 1 → ∃ q, q < 10000 ∧ a_begins c = nI q ∧ cp_sr q (cp_LL nb ki fs T bk c).length) ∧ (cp_s T bk (fs nb + 1) c = 0 → a_begins c = -1)) →
      ∃ (pp : Nat) (begins : Nat → Int32), cr_PX nb ki fs T m bk (nI pp) a_adds begins ∧
        ∀ post : SX → Prop, post (f_drafted, f_blocks, f_edges, f_probed, nI pp, f_fresh, f_x, f_y, f_steps, a_op, a_with, a_kind, a_target, a_from, a_to, a_exit, a_weights, a_inTree, a_back, a_first, a_probes, a_joined, a_order, a_ahead, a_met, a_way, a_ways, a_adds, begins, a_hits, a_cuts, a_gone, a_runs, a_version, a_counts, a_known) → wX_countPaths_111 post f_drafted f_blocks f_edges f_probed f_fresh f_x f_y f_steps (r + 1) (nI b) (nI q) a_op a_with a_kind a_target a_from a_to a_exit a_weights a_inTree a_back a_first a_probes a_joined a_order a_ahead a_met a_way a_ways a_adds a_begins a_hits a_cuts a_gone a_runs a_version a_counts a_known := by
  have hnb := G.2.1
  have hne := cg_ne G
  intro r
  induction r with
  | zero =>
    intro b q a_begins hb hq hsr hI
    have e1 : b = nb := by omega
    subst e1
    refine ⟨q, a_begins, ⟨⟨q, by omega, rfl, hsr⟩, hI, fun b j hb hm hj => ?_⟩, fun post hp => br_t (by rw [hB]; exact nI_le (Nat.le_refl _) (by omega)) hp⟩
    obtain ⟨s, _, _, _, h4⟩ := hS b hb hm
    exact h4 j hj
  | succ r ih =>
    intro b q a_begins hb hq hsr hI
    have hbn : b < nb := by omega
    have hT : ∀ e, e < fs nb + 1 → T e ≤ 12 := fun e he => (cg_FT12 G he).2
    have hb1 : ∀ e, e < fs nb + 1 → bk e ≤ 1 := fun e he => by rcases cg_bk G D he with h | ⟨h, _⟩ <;> omega
    have hLs : (cp_LL nb ki fs T bk (b + 1)).length = (cp_LL nb ki fs T bk b).length + (cp_B nb ki fs T bk b).length := cp_fls
    -- entering the inner loop
    have ent : ∀ (post : SX → Prop) J, (cp_s T bk (fs nb + 1) b = 0 → wX_countPaths_195 post J (nI b) 0 (-1) (nI b) f_drafted f_blocks f_edges f_probed (nI q) f_fresh f_x f_y f_steps a_op a_with a_kind a_target a_from a_to a_exit a_weights a_inTree a_back a_first a_probes a_joined a_order a_ahead a_met a_way a_ways a_adds a_begins a_hits a_cuts a_gone a_runs a_version a_counts a_known) → (cp_s T bk (fs nb + 1) b = 1 → wX_countPaths_195 post J (nI b) 1 (nI q) (nI b) f_drafted f_blocks f_edges f_probed (nI q) f_fresh f_x f_y f_steps a_op a_with a_kind a_target a_from a_to a_exit a_weights a_inTree a_back a_first a_probes a_joined a_order a_ahead a_met a_way a_ways a_adds a_begins a_hits a_cuts a_gone a_runs a_version a_counts a_known) →
        (nI b = 0 → ∃ n132 : Nat, wX_countPaths_132 post J (nI b) f_drafted f_blocks f_edges f_probed (nI q) f_fresh f_x f_y f_steps a_op a_with a_kind a_target a_from a_to a_exit a_weights a_inTree a_back a_first a_probes a_joined a_order a_ahead a_met a_way a_ways a_adds a_begins a_hits a_cuts a_gone a_runs a_version a_counts a_known n132 1 0) ∧ (¬ nI b = 0 → ∃ n132 : Nat, wX_countPaths_132 post J (nI b) f_drafted f_blocks f_edges f_probed (nI q) f_fresh f_x f_y f_steps a_op a_with a_kind a_target a_from a_to a_exit a_weights a_inTree a_back a_first a_probes a_joined a_order a_ahead a_met a_way a_ways a_adds a_begins a_hits a_cuts a_gone a_runs a_version a_counts a_known n132 0 0) := by
      intro post J h0 h1
      have hh := cq_132 (f_paths := nI q) (ne := fs nb + 1) (b := b) (by omega) (by omega) hE hto hT hba hb1 post J h0 h1 (fs nb + 1) 0 (by omega)
      refine ⟨fun h => ?_, fun h => ?_⟩
      · have e0 : b = 0 := cd_im (b := 0) h (by omega) (by omega)
        rw [show cp_s T bk 0 b = 1 from if_pos e0] at hh; exact ⟨_, hh⟩
      · have e0 : b ≠ 0 := fun e => h (by rw [e]; rfl)
        rw [show cp_s T bk 0 b = 0 from if_neg e0] at hh; exact ⟨_, hh⟩
    have nx : ∀ x : Int32, ((cp_s T bk (fs nb + 1) b = 1 → x = nI q) ∧ (cp_s T bk (fs nb + 1) b = 0 → x = -1)) → ∀ c, c < b + 1 → (cp_s T bk (fs nb + 1) c = 1 → ∃ q, q < 10000 ∧ upd a_begins b x c = nI q ∧ cp_sr q (cp_LL nb ki fs T bk c).length) ∧ (cp_s T bk (fs nb + 1) c = 0 → upd a_begins b x c = -1) := by
      intro x hx c hc
      by_cases e : c = b
      · subst e; rw [pk_us]
        exact ⟨fun h => ⟨q, by omega, hx.1 h, hsr⟩, fun h => hx.2 h⟩
      · rw [pk_un e]; exact hI c (by omega)
    rcases cp_s01 T bk (fs nb + 1) b with h | h
    · have hB0 : cp_B nb ki fs T bk b = [] := if_neg (by omega)
      obtain ⟨pp, begins, q1, q2⟩ := ih (b + 1) q (upd a_begins b (-1)) (by omega) hq (by rw [hLs, hB0]; exact hsr) (nx (-1) ⟨fun h' => by omega, fun _ => rfl⟩)
      refine ⟨pp, begins, q1, fun post hp => br_f (by rw [hB]; exact nI_ge hbn (by omega)) (ent post _ (fun _ => ?_) (fun h' => by omega))⟩
      exact And.intro (vp_in_nI (by omega) (by omega)) (nm_r (cd_up rfl (by omega) cd_sm1) (br_t rfl (nm_r (nI_1 b) (q2 post hp))))
    · have hB1 : cp_B nb ki fs T bk b = cp_LB ki fs T bk b := if_pos h
      obtain ⟨hbn', hmb⟩ := cp_sm G D h
      obtain ⟨s, s1, s2, s3, _⟩ := hS b hbn hmb
      have hrk := D.2.2.1 b hbn hmb
      by_cases h300 : q ≤ 300
      · obtain ⟨pp, begins, q1, q2⟩ := ih (b + 1) (q + s) (upd a_begins b (nI q)) (by omega) (by omega) (by rw [hLs, hB1]; exact cp_sra hsr s3 h300) (nx (nI q) ⟨fun _ => rfl, fun h' => by omega⟩)
        refine ⟨pp, begins, q1, fun post hp => br_f (by rw [hB]; exact nI_ge hbn (by omega)) (ent post _ (fun h' => by omega) (fun _ => ?_))⟩
        exact And.intro (vp_in_nI (by omega) (by omega)) (nm_r (cd_up rfl (by omega) (cd_ns (by omega))) (br_f (by decide) (br_f (nI_nlt (b := q) (a := 300) h300 (by omega)) ⟨vp_in_nI (by omega) (by omega), nm_r (e' := nI (q + s)) (by rw [cd_rd rfl (by omega) s2, nI_add]) (nm_r (nI_1 b) (q2 post hp))⟩)))
      · obtain ⟨pp, begins, q1, q2⟩ := ih (b + 1) q (upd a_begins b (nI q)) (by omega) hq (by rw [hLs]; exact cp_srb hsr (by omega) _) (nx (nI q) ⟨fun _ => rfl, fun h' => by omega⟩)
        refine ⟨pp, begins, q1, fun post hp => br_f (by rw [hB]; exact nI_ge hbn (by omega)) (ent post _ (fun h' => by omega) (fun _ => ?_))⟩
        exact And.intro (vp_in_nI (by omega) (by omega)) (nm_r (cd_up rfl (by omega) (cd_ns (by omega))) (br_f (by decide) (br_t (nI_lt (a := 300) (by omega) (by omega)) (nm_r (nI_1 b) (q2 post hp)))))
theorem cq_count {nb : Nat} {ki fs F T m bk rk : Nat → Nat} (G : cg_GR nb ki fs F T) (D : cg_DF nb ki fs T m bk rk) (hB : f_blocks = nI nb) (hE : f_edges = nI (fs nb + 1)) (hfi : ∀ b, b ≤ nb → a_first b = nI (fs b)) (hto : ∀ e, e < fs nb + 1 → a_to e = nI (T e)) (hba : ∀ e, e < fs nb + 1 → a_back e = nI (bk e)) (hme : ∀ b, b < nb → a_met b = nI (m b)) :
    ∃ (pp : Nat) (ways adds begins : Nat → Int32), cr_PX nb ki fs T m bk (nI pp) adds begins ∧
      ∀ post : SX → Prop, post (f_drafted, f_blocks, f_edges, f_probed, nI pp, f_fresh, f_x, f_y, f_steps, a_op, a_with, a_kind, a_target, a_from, a_to, a_exit, a_weights, a_inTree, a_back, a_first, a_probes, a_joined, a_order, a_ahead, a_met, a_way, ways, adds, begins, a_hits, a_cuts, a_gone, a_runs, a_version, a_counts, a_known) → wpX_countPaths post (f_drafted, f_blocks, f_edges, f_probed, f_paths, f_fresh, f_x, f_y, f_steps, a_op, a_with, a_kind, a_target, a_from, a_to, a_exit, a_weights, a_inTree, a_back, a_first, a_probes, a_joined, a_order, a_ahead, a_met, a_way, a_ways, a_adds, a_begins, a_hits, a_cuts, a_gone, a_runs, a_version, a_counts, a_known) := by
  have hnb := G.2.1
  obtain ⟨w0, q1, q2⟩ := cq_ini hnb hB hme D.2.1 nb 0 a_ways (by omega) (fun b hb => by omega)
  obtain ⟨ways, adds, q3, q4⟩ := cq_all (f_paths := f_paths) (a_met := a_met) G D hB hfi hto hba (cq_un nb w0 + 1) w0 a_adds (by omega) (fun b hb => ⟨(q1 b hb).1, fun h => Or.inl ((q1 b hb).2 h)⟩)
  obtain ⟨pp, begins, q5, q6⟩ := cq_111 (a_met := a_met) (a_first := a_first) G D hB hE hto hba q3 nb 0 0 a_begins (by omega) (by omega) (Or.inl rfl) (fun c hc => by omega)
  exact ⟨pp, ways, adds, begins, q5, fun post hp => ⟨_, q2 post (q4 post ⟨_, q6 post hp⟩)⟩⟩
end
end
section
/-! the reference writes all paths down -/
def cp_sf {α : Type} (f : Nat → List α) : Nat → Nat → List α
  | 0, _ => []
  | r + 1, j => f j ++ cp_sf f r (j + 1)
theorem cp_sfl {α : Type} (f : Nat → List α) : ∀ r j, cp_fl f (j + r) = cp_fl f j ++ cp_sf f r j := by
  intro r
  induction r with
  | zero => intro j; simp only [cp_sf, List.append_nil, Nat.add_zero]
  | succ r ih =>
    intro j
    rw [show j + (r + 1) = (j + 1) + r by omega, ih (j + 1)]
    simp only [cp_fl, cp_sf, List.append_assoc]
section
variable {g_made g_blocks g_edges g_paths g_many g_lastX g_lastY g_lastBlocks : Int32} {b_op b_number b_kind b_target b_from b_to b_exit b_weight b_firstEdge b_tree b_back b_row b_length b_gone b_done b_went b_cut b_kept b_mark b_way b_tried b_stack : Nat → Int32}
theorem cy_keep {p n : Nat} (hp : p < 300) (hn : n ≤ 12) (hP : g_paths = nI p) :
    ∃ row : Nat → Int32, (∀ i, i < n → row (12 * p + i) = b_way i) ∧ (∀ x, x < 12 * p ∨ 12 * p + n ≤ x → row x = b_row x) ∧
      ∀ post : SY → Prop, post (g_made, g_blocks, g_edges, nI (p + 1), g_many, g_lastX, g_lastY, g_lastBlocks, b_op, b_number, b_kind, b_target, b_from, b_to, b_exit, b_weight, b_firstEdge, b_tree, b_back, row, upd b_length p (nI n), b_gone, b_done, b_went, b_cut, b_kept, b_mark, b_way, b_tried, b_stack) → wpY_keep post (g_made, g_blocks, g_edges, g_paths, g_many, g_lastX, g_lastY, g_lastBlocks, b_op, b_number, b_kind, b_target, b_from, b_to, b_exit, b_weight, b_firstEdge, b_tree, b_back, b_row, b_length, b_gone, b_done, b_went, b_cut, b_kept, b_mark, b_way, b_tried, b_stack) (nI n) := by
  subst hP
  obtain ⟨h1, h2⟩ := cw_fs (t := fun j => 12 * p + j) (v := fun _ j => b_way j) (N := n) (fun i j _ _ h => by omega) (fun _ _ _ _ _ _ _ => rfl) n 0 b_row (by omega)
  refine ⟨_, fun i hi => h1 i hi (by omega), fun x hx => h2 x (fun i _ hi => by omega), fun post hq => ?_⟩
  refine Exists.intro (n + 1) (cw_fl (W := fun m x a => wY_keep_2 post (nI n) g_made g_blocks g_edges (nI p) g_many g_lastX g_lastY g_lastBlocks m x b_op b_number b_kind b_target b_from b_to b_exit b_weight b_firstEdge b_tree b_back a b_length b_gone b_done b_went b_cut b_kept b_mark b_way b_tried b_stack) (Q := fun a => post (g_made, g_blocks, g_edges, nI (p + 1), g_many, g_lastX, g_lastY, g_lastBlocks, b_op, b_number, b_kind, b_target, b_from, b_to, b_exit, b_weight, b_firstEdge, b_tree, b_back, a, upd b_length p (nI n), b_gone, b_done, b_went, b_cut, b_kept, b_mark, b_way, b_tried, b_stack)) (fun j => 12 * p + j) (fun _ j => b_way j) n ?_ ?_ n 0 b_row (by omega) hq)
  · intro m a hQ; exact br_t (nI_le (Nat.le_refl _) (by omega)) ⟨vp_in_nI hp (by omega), nm_r (cd_up rfl (by omega) rfl) (nm_r (nI_1 p) hQ)⟩
  · intro m j a hj h; exact br_f (nI_ge hj (by omega)) ⟨vp_in_nI (by omega) (by omega), pk_in (12 * p + j) 3600 (by omega) (hx := cw_ix 12 p j), nm_r (cd_up (cw_ix 12 p j) (by omega) (cd_rd rfl (by omega) rfl)) (nm_r (nI_1 j) h)⟩
end
section
variable {g_made g_blocks g_edges g_paths g_many g_lastX g_lastY g_lastBlocks : Int32} {b_op b_number b_kind b_target b_from b_to b_exit b_weight b_firstEdge b_tree b_back b_row b_length b_gone b_done b_went b_cut b_kept b_mark b_way b_tried b_stack : Nat → Int32} {post : SY → Prop} {n d b j k : Nat}
theorem cy_fpop (hM : g_many = 0) (hd : d < 13) (hb : b < 12) (hk : k ≤ 5) (hw : b_stack d = nI b) (ha : b_tried d = nI j) (hj : j = cg_ex k) (hki : b_kind (12 + b) = nI k)
    (h : wY_pathsFrom_16 post n (nI d) g_made g_blocks g_edges g_paths g_many g_lastX g_lastY g_lastBlocks b_op b_number b_kind b_target b_from b_to b_exit b_weight b_firstEdge b_tree b_back b_row b_length b_gone b_done b_went b_cut b_kept b_mark b_way b_tried b_stack) : wY_pathsFrom_16 post (n + 1) (nI (d + 1)) g_made g_blocks g_edges g_paths g_many g_lastX g_lastY g_lastBlocks b_op b_number b_kind b_target b_from b_to b_exit b_weight b_firstEdge b_tree b_back b_row b_length b_gone b_done b_went b_cut b_kept b_mark b_way b_tried b_stack :=
  br_f (nI_nle (by omega) (by omega)) (br_t hM ⟨pk_in d 13 hd (hx := nI_pred d), nm_r (cd_rd (nI_pred d) (by omega) hw) ⟨pk_in d 13 hd (hx := nI_pred d), nm_r (cd_rd (nI_pred d) (by omega) ha) ⟨pk_in (12 + b) 24 (by omega) (hx := nI_add 12 b),
    cw_exY' (cd_rd (nI_add 12 b) (by omega) hki) hk _ (br_t (congrArg nI hj) (nm_r (pk_m1 d) h))⟩⟩⟩)
theorem cy_fpush {s t : Nat} (hM : g_many = 0) (hd : d + 1 < 13) (hb : b < 12) (hk : k ≤ 5) (hw : b_stack d = nI b) (ha : b_tried d = nI j) (hj : j < cg_ex k) (hki : b_kind (12 + b) = nI k) (hf : b_firstEdge b = nI s) (hs : s + j < 37) (ht' : t < 12) (ht : b_to (s + j) = nI t) (hbk : b_back (s + j) = 0)
    (h : wY_pathsFrom_16 post n (nI (d + 2)) g_made g_blocks g_edges g_paths g_many g_lastX g_lastY g_lastBlocks b_op b_number b_kind b_target b_from b_to b_exit b_weight b_firstEdge b_tree b_back b_row b_length b_gone b_done b_went b_cut b_kept b_mark (upd b_way d (nI (s + j))) (upd (upd b_tried d (nI (j + 1))) (d + 1) 0) (upd b_stack (d + 1) (nI t))) : wY_pathsFrom_16 post (n + 1) (nI (d + 1)) g_made g_blocks g_edges g_paths g_many g_lastX g_lastY g_lastBlocks b_op b_number b_kind b_target b_from b_to b_exit b_weight b_firstEdge b_tree b_back b_row b_length b_gone b_done b_went b_cut b_kept b_mark b_way b_tried b_stack :=
  have h3 := (cg_ex1 k).2
  br_f (nI_nle (by omega) (by omega)) (br_t hM ⟨pk_in d 13 (by omega) (hx := nI_pred d), nm_r (cd_rd (nI_pred d) (by omega) hw) ⟨pk_in d 13 (by omega) (hx := nI_pred d), nm_r (cd_rd (nI_pred d) (by omega) ha) ⟨pk_in (12 + b) 24 (by omega) (hx := nI_add 12 b),
    cw_exY' (cd_rd (nI_add 12 b) (by omega) hki) hk _ (br_f (fun h => absurd (cd_im h (by omega) (by omega)) (by omega)) ⟨pk_in d 13 (by omega) (hx := nI_pred d), pk_in d 13 (by omega) (hx := nI_pred d),
      nm_r (cd_up (nI_pred d) (by omega) (by rw [cd_rd (nI_pred d) (by omega) ha, nI_1])) ⟨vp_in_nI (by omega) (by omega), nm_r (e' := nI (s + j)) (by rw [cd_rd rfl (by omega) hf, nI_add]) ⟨pk_in d 13 (by omega) (hx := nI_pred d), nm_r (cd_up (nI_pred d) (by omega) rfl) ⟨vp_in_nI hs (by omega),
        br_t (cd_rd rfl (by omega) hbk) ⟨vp_in_nI hs (by omega), br_t (by rw [cd_rd rfl (by omega) ht]; exact nI_pos' (by omega)) ⟨vp_in_nI hs (by omega), vp_in_nI hd (by omega), nm_r (cd_up rfl (by omega) (cd_rd rfl (by omega) ht)) ⟨vp_in_nI hd (by omega), nm_r (cd_up rfl (by omega) rfl) (nm_r (nI_1 (d + 1)) h)⟩⟩⟩⟩⟩⟩⟩)⟩⟩⟩)
/-- an edge that ends a path -/
theorem cy_fend {s : Nat} (hM : g_many = 0) (hd : d < 13) (hb : b < 12) (hk : k ≤ 5) (hw : b_stack d = nI b) (ha : b_tried d = nI j) (hj : j < cg_ex k) (hki : b_kind (12 + b) = nI k) (hf : b_firstEdge b = nI s) (hs : s + j < 37) (he : ¬ b_back (s + j) = 0 ∨ b_to (s + j) = -1)
    (h : wY_pathsFrom_122 post (wY_pathsFrom_16 post n) (nI (d + 1)) g_made g_blocks g_edges g_paths g_many g_lastX g_lastY g_lastBlocks b_op b_number b_kind b_target b_from b_to b_exit b_weight b_firstEdge b_tree b_back b_row b_length b_gone b_done b_went b_cut b_kept b_mark (upd b_way d (nI (s + j))) (upd b_tried d (nI (j + 1))) b_stack) : wY_pathsFrom_16 post (n + 1) (nI (d + 1)) g_made g_blocks g_edges g_paths g_many g_lastX g_lastY g_lastBlocks b_op b_number b_kind b_target b_from b_to b_exit b_weight b_firstEdge b_tree b_back b_row b_length b_gone b_done b_went b_cut b_kept b_mark b_way b_tried b_stack := by
  have h3 := (cg_ex1 k).2
  refine br_f (nI_nle (by omega) (by omega)) (br_t hM ⟨pk_in d 13 (by omega) (hx := nI_pred d), nm_r (cd_rd (nI_pred d) (by omega) hw) ⟨pk_in d 13 (by omega) (hx := nI_pred d), nm_r (cd_rd (nI_pred d) (by omega) ha) ⟨pk_in (12 + b) 24 (by omega) (hx := nI_add 12 b),
    cw_exY' (cd_rd (nI_add 12 b) (by omega) hki) hk _ (br_f (fun h => absurd (cd_im h (by omega) (by omega)) (by omega)) ⟨pk_in d 13 (by omega) (hx := nI_pred d), pk_in d 13 (by omega) (hx := nI_pred d),
      nm_r (cd_up (nI_pred d) (by omega) (by rw [cd_rd (nI_pred d) (by omega) ha, nI_1])) ⟨vp_in_nI (by omega) (by omega), nm_r (e' := nI (s + j)) (by rw [cd_rd rfl (by omega) hf, nI_add]) ⟨pk_in d 13 (by omega) (hx := nI_pred d), nm_r (cd_up (nI_pred d) (by omega) rfl) ⟨vp_in_nI hs (by omega), ?_⟩⟩⟩⟩)⟩⟩⟩)
  by_cases hb0 : b_back (s + j) = 0
  · have ht : b_to (s + j) = -1 := by
      rcases he with h | h
      · exact absurd hb0 h
      · exact h
    exact br_t (cd_rd rfl (by omega) hb0) ⟨vp_in_nI hs (by omega), br_f (by rw [cd_rd rfl (by omega) ht]; decide) h⟩
  · exact br_f (by rw [nI_clamp (by omega)]; exact hb0) h
theorem cy_fmany (hP : g_paths = nI 300) (h : wY_pathsFrom_16 post n (nI (d + 1)) g_made g_blocks g_edges g_paths 1 g_lastX g_lastY g_lastBlocks b_op b_number b_kind b_target b_from b_to b_exit b_weight b_firstEdge b_tree b_back b_row b_length b_gone b_done b_went b_cut b_kept b_mark b_way b_tried b_stack) : wY_pathsFrom_122 post (wY_pathsFrom_16 post n) (nI (d + 1)) g_made g_blocks g_edges g_paths g_many g_lastX g_lastY g_lastBlocks b_op b_number b_kind b_target b_from b_to b_exit b_weight b_firstEdge b_tree b_back b_row b_length b_gone b_done b_went b_cut b_kept b_mark b_way b_tried b_stack :=
  br_t hP (And.intro rfl (And.intro rfl (br_f (by decide) h)))
theorem cy_fkeep {p : Nat} (hP : g_paths = nI p) (hp : p < 300) (h : wpY_keep (fun u => match u with | (g_made, g_blocks, g_edges, g_paths, g_many, g_lastX, g_lastY, g_lastBlocks, b_op, b_number, b_kind, b_target, b_from, b_to, b_exit, b_weight, b_firstEdge, b_tree, b_back, b_row, b_length, b_gone, b_done, b_went, b_cut, b_kept, b_mark, b_way, b_tried, b_stack) => (wY_pathsFrom_16 post n) (nI (d + 1)) g_made g_blocks g_edges g_paths g_many g_lastX g_lastY g_lastBlocks b_op b_number b_kind b_target b_from b_to b_exit b_weight b_firstEdge b_tree b_back b_row b_length b_gone b_done b_went b_cut b_kept b_mark b_way b_tried b_stack) (g_made, g_blocks, g_edges, g_paths, 0, g_lastX, g_lastY, g_lastBlocks, b_op, b_number, b_kind, b_target, b_from, b_to, b_exit, b_weight, b_firstEdge, b_tree, b_back, b_row, b_length, b_gone, b_done, b_went, b_cut, b_kept, b_mark, b_way, b_tried, b_stack) (nI (d + 1))) : wY_pathsFrom_122 post (wY_pathsFrom_16 post n) (nI (d + 1)) g_made g_blocks g_edges g_paths g_many g_lastX g_lastY g_lastBlocks b_op b_number b_kind b_target b_from b_to b_exit b_weight b_firstEdge b_tree b_back b_row b_length b_gone b_done b_went b_cut b_kept b_mark b_way b_tried b_stack :=
  br_f (fun h => absurd (cd_im (b := 300) (hP.symm.trans h) (by omega) (by omega)) (by omega)) (And.intro rfl (And.intro rfl (br_t rfl h)))
end
end
section
/-! pathsFrom and findPaths -/
theorem cy_rw1 {L : List (List Nat)} {row len row' len' : Nat → Int32} {pi : List Nat} (h : cr_RW L L.length row len) (hl : pi.length ≤ 12) (h1 : ∀ x, x < 12 * L.length → row' x = row x) (h2 : ∀ q, q < L.length → len' q = len q)
    (h3 : len' L.length = nI pi.length) (h4 : ∀ i x, pi[i]? = some x → row' (12 * L.length + i) = nI x) : cr_RW (L ++ [pi]) (L ++ [pi]).length row' len' := by
  intro q hq
  rw [List.length_append, List.length_singleton] at hq
  by_cases e : q = L.length
  · subst e
    exact ⟨pi, by rw [List.getElem?_append_right (Nat.le_refl _), Nat.sub_self]; rfl, hl, h3, h4⟩
  · obtain ⟨rho, q1, q2, q3, q4⟩ := h q (by omega)
    refine ⟨rho, by rw [List.getElem?_append_left (by omega)]; exact q1, q2, by rw [h2 q (by omega)]; exact q3, fun i x hx => ?_⟩
    have hi : i < rho.length := (List.getElem?_eq_some_iff.mp hx).1
    rw [h1 _ (by omega)]; exact q4 i x hx
/-- the paths gone so far lie in the way -/
def cy_wy (way : Nat → Int32) (pi : List Nat) : Prop := ∀ i x, pi[i]? = some x → way i = nI x
theorem cy_wy1 {way : Nat → Int32} {pi : List Nat} {e : Nat} (h : cy_wy way pi) : cy_wy (upd way pi.length (nI e)) (pi ++ [e]) := by
  intro i x hx
  by_cases hi : i < pi.length
  · rw [List.getElem?_append_left hi] at hx
    rw [pk_un (by omega)]; exact h i x hx
  · rw [List.getElem?_append_right (by omega)] at hx
    have : i = pi.length := by
      have := (List.getElem?_eq_some_iff.mp hx).1
      rw [List.length_singleton] at this; omega
    subst this
    rw [Nat.sub_self] at hx
    rw [pk_us]
    exact congrArg nI (Option.some.inj hx)
section
variable {g_made g_blocks g_edges g_paths g_many g_lastX g_lastY g_lastBlocks : Int32} {b_op b_number b_kind b_target b_from b_to b_exit b_weight b_firstEdge b_tree b_back b_row b_length b_gone b_done b_went b_cut b_kept b_mark b_way b_tried b_stack : Nat → Int32}
set_option maxHeartbeats 4000000 in
/-- from block b at depth d, exits j, j+1, ..: the paths M are written, or there are too many -/
theorem cy_ex {nb : Nat} {ki fs F T m bk rk : Nat → Nat} (G : cg_GR nb ki fs F T) (D : cg_DF nb ki fs T m bk rk) (hki : ∀ b, b < nb → b_kind (12 + b) = nI (ki b)) (hyf : ∀ b, b < nb → b_firstEdge b = nI (fs b)) (hyt : ∀ e, e < fs nb + 1 → b_to e = cd_cv (T e)) (hyb : ∀ e, e < fs nb + 1 → b_back e = nI (bk e)) :
    ∀ b, b < nb → m b = 2 → ∀ r j pi L b_way b_tried b_stack b_row b_length, j + r = cg_ex (ki b) → pi.length + rk b < 12 → L.length ≤ 300 → cr_RW L L.length b_row b_length → cy_wy b_way pi → b_stack pi.length = nI b → b_tried pi.length = nI j →
      (L.length + (cp_sf (fun i => cp_LE ki fs T bk (fs b + i)) r j).length ≤ 300 ∧ ∃ way tried stack row len : Nat → Int32, (∀ i, i < pi.length → way i = b_way i ∧ tried i = b_tried i ∧ stack i = b_stack i) ∧
          cr_RW (L ++ (cp_sf (fun i => cp_LE ki fs T bk (fs b + i)) r j).map (fun p => pi ++ p)) (L ++ (cp_sf (fun i => cp_LE ki fs T bk (fs b + i)) r j).map (fun p => pi ++ p)).length row len ∧
          ∀ post : SY → Prop, (∃ n, wY_pathsFrom_16 post n (nI pi.length) g_made g_blocks g_edges (nI (L ++ (cp_sf (fun i => cp_LE ki fs T bk (fs b + i)) r j).map (fun p => pi ++ p)).length) 0 g_lastX g_lastY g_lastBlocks b_op b_number b_kind b_target b_from b_to b_exit b_weight b_firstEdge b_tree b_back row len b_gone b_done b_went b_cut b_kept b_mark way tried stack) →
            ∃ n, wY_pathsFrom_16 post n (nI (pi.length + 1)) g_made g_blocks g_edges (nI L.length) 0 g_lastX g_lastY g_lastBlocks b_op b_number b_kind b_target b_from b_to b_exit b_weight b_firstEdge b_tree b_back b_row b_length b_gone b_done b_went b_cut b_kept b_mark b_way b_tried b_stack) ∨
      (300 < L.length + (cp_sf (fun i => cp_LE ki fs T bk (fs b + i)) r j).length ∧ ∃ way tried stack row len : Nat → Int32,
          ∀ post : SY → Prop, post (g_made, g_blocks, g_edges, nI 300, 1, g_lastX, g_lastY, g_lastBlocks, b_op, b_number, b_kind, b_target, b_from, b_to, b_exit, b_weight, b_firstEdge, b_tree, b_back, row, len, b_gone, b_done, b_went, b_cut, b_kept, b_mark, way, tried, stack) → ∃ n, wY_pathsFrom_16 post n (nI (pi.length + 1)) g_made g_blocks g_edges (nI L.length) 0 g_lastX g_lastY g_lastBlocks b_op b_number b_kind b_target b_from b_to b_exit b_weight b_firstEdge b_tree b_back b_row b_length b_gone b_done b_went b_cut b_kept b_mark b_way b_tried b_stack) := by
  have hnb := G.2.1
  have hne := cg_ne G
  refine cp_ind D _ (fun b hb hm ihb => ?_)
  have hkb := (G.2.2.2.1 b hb).1
  intro r
  induction r with
  | zero =>
    intro j pi L b_way b_tried b_stack b_row b_length hj hd hL hR hw hs ht
    refine Or.inl ⟨by simp only [cp_sf, List.length_nil, Nat.add_zero]; exact hL, b_way, b_tried, b_stack, b_row, b_length, fun i _ => ⟨rfl, rfl, rfl⟩, by simp only [cp_sf, List.map_nil, List.append_nil]; exact hR, fun post hp => ?_⟩
    simp only [cp_sf, List.map_nil, List.append_nil] at hp
    obtain ⟨n, hn⟩ := hp
    exact ⟨n + 1, cy_fpop (b := b) (j := j) (k := ki b) rfl (by omega) (by omega) hkb hs ht (by omega) (hki b hb) hn⟩
  | succ r ih =>
    intro j pi L b_way b_tried b_stack b_row b_length hj hd hL hR hw hs ht
    have hje : j < cg_ex (ki b) := by omega
    have hlt := cg_lt G hb hje
    have hyt' := hyt (fs b + j) (by omega)
    have hyb' := hyb (fs b + j) (by omega)
    by_cases he : bk (fs b + j) = 1 ∨ T (fs b + j) = 12
    · -- a path ends here
      have hE : cp_sf (fun i => cp_LE ki fs T bk (fs b + i)) (r + 1) j = [fs b + j] :: cp_sf (fun i => cp_LE ki fs T bk (fs b + i)) r (j + 1) := by
        simp only [cp_sf]; rw [cp_LEe he]; rfl
      have hbo : ¬ b_back (fs b + j) = 0 ∨ b_to (fs b + j) = -1 := by
        rcases he with h | h
        · left; rw [hyb', h]; decide
        · right; rw [hyt', h]; rfl
      rw [hE]
      by_cases h300 : L.length = 300
      · refine Or.inr ⟨by rw [List.length_cons]; omega, upd b_way pi.length (nI (fs b + j)), upd b_tried pi.length (nI (j + 1)), b_stack, b_row, b_length, fun post hp => ⟨2, ?_⟩⟩
        exact cy_fend (b := b) (j := j) (k := ki b) (s := fs b) rfl (by omega) (by omega) hkb hs ht hje (hki b hb) (hyf b hb) (by omega) hbo (cy_fmany (by rw [h300]) (br_f (nI_nle (by omega) (by omega)) (br_f (by decide) (by rw [h300]; exact hp))))
      · obtain ⟨row, k1, k2, k3⟩ := cy_keep (g_paths := nI L.length) (g_many := 0) (b_way := upd b_way pi.length (nI (fs b + j))) (b_row := b_row) (p := L.length) (n := pi.length + 1) (by omega) (by omega) rfl
          (g_made := g_made) (g_blocks := g_blocks) (g_edges := g_edges) (g_lastX := g_lastX) (g_lastY := g_lastY) (g_lastBlocks := g_lastBlocks) (b_op := b_op) (b_number := b_number) (b_kind := b_kind) (b_target := b_target) (b_from := b_from) (b_to := b_to) (b_exit := b_exit) (b_weight := b_weight) (b_firstEdge := b_firstEdge) (b_tree := b_tree) (b_back := b_back) (b_gone := b_gone) (b_done := b_done) (b_went := b_went) (b_cut := b_cut) (b_kept := b_kept) (b_mark := b_mark) (b_tried := upd b_tried pi.length (nI (j + 1))) (b_stack := b_stack) (b_length := b_length)
        have hw' := cy_wy1 (e := fs b + j) hw
        have hR' : cr_RW (L ++ [pi ++ [fs b + j]]) (L ++ [pi ++ [fs b + j]]).length row (upd b_length L.length (nI (pi.length + 1))) := by
          refine cy_rw1 hR (by rw [List.length_append, List.length_singleton]; omega) (fun x hx => k2 x (Or.inl hx)) (fun q hq => pk_un (by omega)) (by rw [pk_us, List.length_append, List.length_singleton]) (fun i x hx => ?_)
          have hi := (List.getElem?_eq_some_iff.mp hx).1
          rw [List.length_append, List.length_singleton] at hi
          rw [k1 i hi]; exact hw' i x hx
        have hcat : (L ++ [pi ++ [fs b + j]]) ++ (cp_sf (fun i => cp_LE ki fs T bk (fs b + i)) r (j + 1)).map (fun p => pi ++ p) = L ++ ([fs b + j] :: cp_sf (fun i => cp_LE ki fs T bk (fs b + i)) r (j + 1)).map (fun p => pi ++ p) := by
          rw [List.append_assoc]; rfl
        have hlen1 : (L ++ [pi ++ [fs b + j]]).length = L.length + 1 := by rw [List.length_append, List.length_singleton]
        have hst : ∀ post n, wY_pathsFrom_16 post n (nI (pi.length + 1)) g_made g_blocks g_edges (nI (L ++ [pi ++ [fs b + j]]).length) 0 g_lastX g_lastY g_lastBlocks b_op b_number b_kind b_target b_from b_to b_exit b_weight b_firstEdge b_tree b_back row (upd b_length L.length (nI (pi.length + 1))) b_gone b_done b_went b_cut b_kept b_mark (upd b_way pi.length (nI (fs b + j))) (upd b_tried pi.length (nI (j + 1))) b_stack → wY_pathsFrom_16 post (n + 1) (nI (pi.length + 1)) g_made g_blocks g_edges (nI L.length) 0 g_lastX g_lastY g_lastBlocks b_op b_number b_kind b_target b_from b_to b_exit b_weight b_firstEdge b_tree b_back b_row b_length b_gone b_done b_went b_cut b_kept b_mark b_way b_tried b_stack := by
          intro post n hn
          rw [hlen1] at hn
          exact cy_fend (b := b) (j := j) (k := ki b) (s := fs b) rfl (by omega) (by omega) hkb hs ht hje (hki b hb) (hyf b hb) (by omega) hbo (cy_fkeep (p := L.length) rfl (by omega) (k3 _ hn))
        rcases ih (j + 1) pi (L ++ [pi ++ [fs b + j]]) (upd b_way pi.length (nI (fs b + j))) (upd b_tried pi.length (nI (j + 1))) b_stack row (upd b_length L.length (nI (pi.length + 1))) (by omega) hd (by omega) hR' (fun i x hx => by
            have hi := (List.getElem?_eq_some_iff.mp hx).1
            rw [pk_un (by omega)]; exact hw i x hx) hs pk_us with ⟨z1, way, tried, stack, row', len', z2, z3, z4⟩ | ⟨z1, way, tried, stack, row', len', z4⟩
        · refine Or.inl ⟨by rw [List.length_cons]; omega, way, tried, stack, row', len', fun i hi => ?_, by rw [hcat] at z3; exact z3, fun post hp => ?_⟩
          · obtain ⟨a1, a2, a3⟩ := z2 i hi
            rw [pk_un (by omega)] at a1 a2
            exact ⟨a1, a2, a3⟩
          · rw [← hcat] at hp
            obtain ⟨n, hn⟩ := z4 post hp
            exact ⟨n + 1, hst post n hn⟩
        · refine Or.inr ⟨by rw [List.length_cons]; omega, way, tried, stack, row', len', fun post hp => ?_⟩
          obtain ⟨n, hn⟩ := z4 post hp
          exact ⟨n + 1, hst post n hn⟩
    · -- into the next block
      have he1 : bk (fs b + j) ≠ 1 := fun h => he (Or.inl h)
      have he2 : T (fs b + j) ≠ 12 := fun h => he (Or.inr h)
      have hDj := D.2.2.2.1 b j hb hm hje
      have hT : T (fs b + j) < nb ∧ m (T (fs b + j)) = 2 ∧ rk (T (fs b + j)) < rk b ∧ bk (fs b + j) = 0 := by
        rcases hDj with ⟨h, _⟩ | ⟨h1, h2, h | ⟨h3, h4⟩⟩
        · exact absurd h he2
        · exact absurd h he1
        · exact ⟨h1, h2, h4, h3⟩
      obtain ⟨hT1, hT2, hT3, hT4⟩ := hT
      have hE : cp_sf (fun i => cp_LE ki fs T bk (fs b + i)) (r + 1) j = (cp_LB ki fs T bk (T (fs b + j))).map (fun p => (fs b + j) :: p) ++ cp_sf (fun i => cp_LE ki fs T bk (fs b + i)) r (j + 1) := by
        simp only [cp_sf]; rw [cp_LEn he1 he2]
      have hfull : cp_sf (fun i => cp_LE ki fs T bk (fs (T (fs b + j)) + i)) (cg_ex (ki (T (fs b + j)))) 0 = cp_LB ki fs T bk (T (fs b + j)) := by
        rw [cp_eq G D hT1 hT2]
        have := cp_sfl (fun i => cp_LE ki fs T bk (fs (T (fs b + j)) + i)) (cg_ex (ki (T (fs b + j)))) 0
        rw [Nat.zero_add] at this
        exact this.symm
      have hpl : (pi ++ [fs b + j]).length = pi.length + 1 := by rw [List.length_append, List.length_singleton]
      have hst : ∀ post n, wY_pathsFrom_16 post n (nI (pi.length + 2)) g_made g_blocks g_edges (nI L.length) 0 g_lastX g_lastY g_lastBlocks b_op b_number b_kind b_target b_from b_to b_exit b_weight b_firstEdge b_tree b_back b_row b_length b_gone b_done b_went b_cut b_kept b_mark (upd b_way pi.length (nI (fs b + j))) (upd (upd b_tried pi.length (nI (j + 1))) (pi.length + 1) 0) (upd b_stack (pi.length + 1) (nI (T (fs b + j)))) → wY_pathsFrom_16 post (n + 1) (nI (pi.length + 1)) g_made g_blocks g_edges (nI L.length) 0 g_lastX g_lastY g_lastBlocks b_op b_number b_kind b_target b_from b_to b_exit b_weight b_firstEdge b_tree b_back b_row b_length b_gone b_done b_went b_cut b_kept b_mark b_way b_tried b_stack := by
        intro post n hn
        exact cy_fpush (b := b) (j := j) (k := ki b) (s := fs b) (t := T (fs b + j)) rfl (by omega) (by omega) hkb hs ht hje (hki b hb) (hyf b hb) (by omega) (by omega) (by rw [hyt', cd_cvn he2]) (by rw [hyb', hT4]; rfl) hn
      have hcat : (L ++ (cp_LB ki fs T bk (T (fs b + j))).map (fun p => (pi ++ [fs b + j]) ++ p)) ++ (cp_sf (fun i => cp_LE ki fs T bk (fs b + i)) r (j + 1)).map (fun p => pi ++ p) =
          L ++ ((cp_LB ki fs T bk (T (fs b + j))).map (fun p => (fs b + j) :: p) ++ cp_sf (fun i => cp_LE ki fs T bk (fs b + i)) r (j + 1)).map (fun p => pi ++ p) := by
        rw [List.append_assoc, List.map_append, List.map_map]
        congr 2
        refine List.map_congr_left (fun p _ => ?_)
        simp
      rw [hE]
      rcases ihb j hje he1 he2 (cg_ex (ki (T (fs b + j)))) 0 (pi ++ [fs b + j]) L (upd b_way pi.length (nI (fs b + j))) (upd (upd b_tried pi.length (nI (j + 1))) (pi.length + 1) 0) (upd b_stack (pi.length + 1) (nI (T (fs b + j)))) b_row b_length (by omega) (by rw [hpl]; omega) hL hR (cy_wy1 hw) (by rw [hpl, pk_us]) (by rw [hpl, pk_us]; rfl)
        with ⟨z1, way, tried, stack, row', len', z2, z3, z4⟩ | ⟨z1, way, tried, stack, row', len', z4⟩
      · rw [hfull] at z1 z3 z4
        rw [hpl] at z2 z4
        have hw1 : ∀ i, i < pi.length → way i = b_way i ∧ tried i = b_tried i ∧ stack i = b_stack i := by
          intro i hi
          obtain ⟨a1, a2, a3⟩ := z2 i (by omega)
          rw [pk_un (by omega)] at a1 a3
          rw [pk_un (by omega), pk_un (by omega)] at a2
          exact ⟨a1, a2, a3⟩
        obtain ⟨_, b2, b3⟩ := z2 pi.length (by omega)
        rw [pk_un (by omega), pk_us] at b2
        rw [pk_un (by omega), hs] at b3
        have hl2 : (L ++ (cp_LB ki fs T bk (T (fs b + j))).map (fun p => (pi ++ [fs b + j]) ++ p)).length = L.length + (cp_LB ki fs T bk (T (fs b + j))).length := by rw [List.length_append, List.length_map]
        rcases ih (j + 1) pi (L ++ (cp_LB ki fs T bk (T (fs b + j))).map (fun p => (pi ++ [fs b + j]) ++ p)) way tried stack row' len' (by omega) hd (by omega) z3 (fun i x hx => by
            have hi := (List.getElem?_eq_some_iff.mp hx).1
            rw [(hw1 i hi).1]; exact hw i x hx) b3 b2 with ⟨y1, way', tried', stack', row'', len'', y2, y3, y4⟩ | ⟨y1, way', tried', stack', row'', len'', y4⟩
        · refine Or.inl ⟨by rw [List.length_append, List.length_map]; omega, way', tried', stack', row'', len'', fun i hi => ?_, by rw [hcat] at y3; exact y3, fun post hp => ?_⟩
          · obtain ⟨a1, a2, a3⟩ := y2 i hi
            obtain ⟨c1, c2, c3⟩ := hw1 i hi
            exact ⟨a1.trans c1, a2.trans c2, a3.trans c3⟩
          · rw [← hcat] at hp
            obtain ⟨n, hn⟩ := z4 post (y4 post hp)
            exact ⟨n + 1, hst post n hn⟩
        · refine Or.inr ⟨by rw [List.length_append, List.length_map]; omega, way', tried', stack', row'', len'', fun post hp => ?_⟩
          obtain ⟨n, hn⟩ := z4 post (y4 post hp)
          exact ⟨n + 1, hst post n hn⟩
      · rw [hfull] at z1
        rw [hpl] at z4
        refine Or.inr ⟨by rw [List.length_append, List.length_map]; omega, way, tried, stack, row', len', fun post hp => ?_⟩
        obtain ⟨n, hn⟩ := z4 post hp
        exact ⟨n + 1, hst post n hn⟩
end
end
section
/-! findPaths -/
section
variable {g_made g_blocks g_edges g_paths g_many g_lastX g_lastY g_lastBlocks : Int32} {b_op b_number b_kind b_target b_from b_to b_exit b_weight b_firstEdge b_tree b_back b_row b_length b_gone b_done b_went b_cut b_kept b_mark b_way b_tried b_stack : Nat → Int32}
theorem cy_from {nb : Nat} {ki fs F T m bk rk : Nat → Nat} (G : cg_GR nb ki fs F T) (D : cg_DF nb ki fs T m bk rk) (hki : ∀ b, b < nb → b_kind (12 + b) = nI (ki b)) (hyf : ∀ b, b < nb → b_firstEdge b = nI (fs b)) (hyt : ∀ e, e < fs nb + 1 → b_to e = cd_cv (T e)) (hyb : ∀ e, e < fs nb + 1 → b_back e = nI (bk e))
    {b : Nat} (hs : cp_s T bk (fs nb + 1) b = 1) (hP : cr_PY (cp_LL nb ki fs T bk b) g_paths g_many b_row b_length) :
    ∃ (gP gM : Int32) (way tried stack row len : Nat → Int32), cr_PY (cp_LL nb ki fs T bk (b + 1)) gP gM row len ∧
      ∀ post : SY → Prop, post (g_made, g_blocks, g_edges, gP, gM, g_lastX, g_lastY, g_lastBlocks, b_op, b_number, b_kind, b_target, b_from, b_to, b_exit, b_weight, b_firstEdge, b_tree, b_back, row, len, b_gone, b_done, b_went, b_cut, b_kept, b_mark, way, tried, stack) → wpY_pathsFrom post (g_made, g_blocks, g_edges, g_paths, g_many, g_lastX, g_lastY, g_lastBlocks, b_op, b_number, b_kind, b_target, b_from, b_to, b_exit, b_weight, b_firstEdge, b_tree, b_back, b_row, b_length, b_gone, b_done, b_went, b_cut, b_kept, b_mark, b_way, b_tried, b_stack) (nI b) := by
  obtain ⟨hb, hm⟩ := cp_sm G D hs
  have hnb := G.2.1
  have hrk := D.2.2.1 b hb hm
  have hLs : cp_LL nb ki fs T bk (b + 1) = cp_LL nb ki fs T bk b ++ cp_LB ki fs T bk b := by
    show cp_LL nb ki fs T bk b ++ cp_B nb ki fs T bk b = _
    rw [show cp_B nb ki fs T bk b = cp_LB ki fs T bk b from if_pos hs]
  have hfull : cp_sf (fun i => cp_LE ki fs T bk (fs b + i)) (cg_ex (ki b)) 0 = cp_LB ki fs T bk b := by
    rw [cp_eq G D hb hm]
    have := cp_sfl (fun i => cp_LE ki fs T bk (fs b + i)) (cg_ex (ki b)) 0
    rw [Nat.zero_add] at this
    exact this.symm
  have hmap : (cp_LB ki fs T bk b).map (fun p => [] ++ p) = cp_LB ki fs T bk b := by
    rw [show (fun p : List Nat => [] ++ p) = id from rfl]; exact List.map_id _
  rcases hP with ⟨h1, h2, h3, h4⟩ | ⟨h1, h2, h3⟩
  · rcases cy_ex (g_made := g_made) (g_blocks := g_blocks) (g_edges := g_edges) (g_lastX := g_lastX) (g_lastY := g_lastY) (g_lastBlocks := g_lastBlocks) (b_op := b_op) (b_number := b_number) (b_kind := b_kind) (b_target := b_target) (b_from := b_from) (b_to := b_to) (b_exit := b_exit) (b_weight := b_weight) (b_firstEdge := b_firstEdge) (b_tree := b_tree) (b_back := b_back) (b_gone := b_gone) (b_done := b_done) (b_went := b_went) (b_cut := b_cut) (b_kept := b_kept) (b_mark := b_mark) G D hki hyf hyt hyb b hb hm (cg_ex (ki b)) 0 [] (cp_LL nb ki fs T bk b) b_way (upd b_tried 0 0) (upd b_stack 0 (nI b)) b_row b_length (by omega) (by rw [List.length_nil]; omega) h2 h4 (fun i x hx => by cases hx) pk_us pk_us
      with ⟨z1, way, tried, stack, row, len, z2, z3, z4⟩ | ⟨z1, way, tried, stack, row, len, z4⟩
    · rw [hfull, hmap] at z3 z4
      rw [hfull] at z1
      rw [← hLs] at z3 z4
      refine ⟨_, 0, way, tried, stack, row, len, Or.inl ⟨rfl, by rw [hLs, List.length_append]; exact z1, rfl, z3⟩, fun post hp => nm_e (nm_e ?_)⟩
      rw [h1, h3]
      exact z4 post ⟨1, br_t (by decide) hp⟩
    · rw [hfull] at z1
      refine ⟨_, 1, way, tried, stack, row, len, Or.inr ⟨rfl, by rw [hLs, List.length_append]; exact z1, rfl⟩, fun post hp => nm_e (nm_e ?_)⟩
      rw [h1, h3]
      exact z4 post hp
  · refine ⟨g_paths, g_many, b_way, upd b_tried 0 0, upd b_stack 0 (nI b), b_row, b_length, Or.inr ⟨h1, by rw [hLs, List.length_append]; omega, h3⟩, fun post hp => nm_e (nm_e ⟨1, br_f (by decide) (br_f (by rw [h1]; decide) hp)⟩)⟩
theorem cy_32 {ne b : Nat} {T bk : Nat → Nat} (hne : ne < 38) (hb : b < 12) (hE : g_edges = nI ne) (hto : ∀ e, e < ne → b_to e = cd_cv (T e)) (hT : ∀ e, e < ne → T e ≤ 12) (hba : ∀ e, e < ne → b_back e = nI (bk e)) (hb1 : ∀ e, e < ne → bk e ≤ 1)
    (post : SY → Prop) (J : Int32 → Int32 → Int32 → Int32 → Int32 → Int32 → Int32 → Int32 → Int32 → (Nat → Int32) → (Nat → Int32) → (Nat → Int32) → (Nat → Int32) → (Nat → Int32) → (Nat → Int32) → (Nat → Int32) → (Nat → Int32) → (Nat → Int32) → (Nat → Int32) → (Nat → Int32) → (Nat → Int32) → (Nat → Int32) → (Nat → Int32) → (Nat → Int32) → (Nat → Int32) → (Nat → Int32) → (Nat → Int32) → (Nat → Int32) → (Nat → Int32) → (Nat → Int32) → (Nat → Int32) → Prop)
    (h0 : cp_s T bk ne b = 0 → J (nI (b + 1)) g_made g_blocks g_edges g_paths g_many g_lastX g_lastY g_lastBlocks b_op b_number b_kind b_target b_from b_to b_exit b_weight b_firstEdge b_tree b_back b_row b_length b_gone b_done b_went b_cut b_kept b_mark b_way b_tried b_stack) (h1 : cp_s T bk ne b = 1 → wpY_pathsFrom (fun u => match u with | (g_made, g_blocks, g_edges, g_paths, g_many, g_lastX, g_lastY, g_lastBlocks, b_op, b_number, b_kind, b_target, b_from, b_to, b_exit, b_weight, b_firstEdge, b_tree, b_back, b_row, b_length, b_gone, b_done, b_went, b_cut, b_kept, b_mark, b_way, b_tried, b_stack) => (∀ x : Int32, x = nI b + 1 → J x g_made g_blocks g_edges g_paths g_many g_lastX g_lastY g_lastBlocks b_op b_number b_kind b_target b_from b_to b_exit b_weight b_firstEdge b_tree b_back b_row b_length b_gone b_done b_went b_cut b_kept b_mark b_way b_tried b_stack)) (g_made, g_blocks, g_edges, g_paths, g_many, g_lastX, g_lastY, g_lastBlocks, b_op, b_number, b_kind, b_target, b_from, b_to, b_exit, b_weight, b_firstEdge, b_tree, b_back, b_row, b_length, b_gone, b_done, b_went, b_cut, b_kept, b_mark, b_way, b_tried, b_stack) (nI b)) :
    ∀ r e, e + r = ne → wY_findPaths_32 post J (nI b) g_made g_blocks g_edges g_paths g_many g_lastX g_lastY g_lastBlocks b_op b_number b_kind b_target b_from b_to b_exit b_weight b_firstEdge b_tree b_back b_row b_length b_gone b_done b_went b_cut b_kept b_mark b_way b_tried b_stack (r + 1) (nI (cp_s T bk e b)) (nI e) := by
  intro r
  induction r with
  | zero =>
    intro e he
    have e1 : e = ne := by omega
    subst e1
    refine br_t (by rw [hE]; exact nI_le (Nat.le_refl _) (by omega)) ?_
    rcases cp_s01 T bk e b with h | h
    · rw [h]; exact br_t rfl (nm_r (nI_1 b) (h0 h))
    · rw [h]; exact br_f (by decide) (h1 h)
  | succ r ih =>
    intro e he
    have hn := ih (e + 1) (by omega)
    have heq : cp_s T bk (e + 1) b = if bk e = 1 ∧ T e = b then 1 else cp_s T bk e b := rfl
    refine br_f (by rw [hE]; exact nI_ge (by omega) (by omega)) ⟨vp_in_nI (by omega) (by omega), ?_⟩
    have hor0 : nI (cp_s T bk e b) ||| 0 = nI (cp_s T bk e b) := by
      rcases cp_s01 T bk e b with h | h <;> rw [h] <;> decide
    have hor1 : nI (cp_s T bk e b) ||| 1 = 1 := by
      rcases cp_s01 T bk e b with h | h <;> rw [h] <;> decide
    by_cases hb0 : bk e = 0
    · refine br_t (by rw [cd_rd rfl (by omega) (hba e (by omega)), hb0]; rfl) (nm_r hor0 (nm_r (nI_1 e) ?_))
      rw [heq, if_neg (by omega)] at hn; exact hn
    · have hb1' := hb1 e (by omega)
      refine br_f (by rw [cd_rd rfl (by omega) (hba e (by omega))]; exact nI_ne0 (by omega) (by omega)) ⟨vp_in_nI (by omega) (by omega), ?_⟩
      by_cases ht : T e = b
      · refine br_t (by rw [cd_rd rfl (by omega) (hto e (by omega)), cd_cvn (by omega), ht]) (nm_r hor1 (nm_r (nI_1 e) ?_))
        rw [heq, if_pos ⟨by omega, ht⟩] at hn; exact hn
      · refine br_f ?_ (nm_r hor0 (nm_r (nI_1 e) ?_))
        · rw [cd_rd rfl (by omega) (hto e (by omega))]
          have := hT e (by omega)
          by_cases h12 : T e = 12
          · rw [h12, cd_cv12]; exact fun h => cd_nn (by omega) h.symm
          · rw [cd_cvn h12]; exact fun h => ht (cd_im h (by omega) (by omega))
        · rw [heq, if_neg (fun hh => ht hh.2)] at hn; exact hn
theorem cy_12 {nb : Nat} {ki fs F T m bk rk : Nat → Nat} (G : cg_GR nb ki fs F T) (D : cg_DF nb ki fs T m bk rk) (hB : g_blocks = nI nb) (hE : g_edges = nI (fs nb + 1)) (hki : ∀ b, b < nb → b_kind (12 + b) = nI (ki b)) (hyf : ∀ b, b < nb → b_firstEdge b = nI (fs b)) (hyt : ∀ e, e < fs nb + 1 → b_to e = cd_cv (T e)) (hyb : ∀ e, e < fs nb + 1 → b_back e = nI (bk e)) :
    ∀ r b g_paths g_many b_way b_tried b_stack b_row b_length, b + r = nb → cr_PY (cp_LL nb ki fs T bk b) g_paths g_many b_row b_length →
      ∃ (gP gM : Int32) (way tried stack row len : Nat → Int32), cr_PY (cp_LL nb ki fs T bk nb) gP gM row len ∧
        ∀ post : SY → Prop, post (g_made, g_blocks, g_edges, gP, gM, g_lastX, g_lastY, g_lastBlocks, b_op, b_number, b_kind, b_target, b_from, b_to, b_exit, b_weight, b_firstEdge, b_tree, b_back, row, len, b_gone, b_done, b_went, b_cut, b_kept, b_mark, way, tried, stack) → wY_findPaths_12 post (r + 1) (nI b) g_made g_blocks g_edges g_paths g_many g_lastX g_lastY g_lastBlocks b_op b_number b_kind b_target b_from b_to b_exit b_weight b_firstEdge b_tree b_back b_row b_length b_gone b_done b_went b_cut b_kept b_mark b_way b_tried b_stack := by
  have hnb := G.2.1
  have hne := cg_ne G
  intro r
  induction r with
  | zero =>
    intro b g_paths g_many b_way b_tried b_stack b_row b_length hb hP
    have e1 : b = nb := by omega
    subst e1
    exact ⟨g_paths, g_many, b_way, b_tried, b_stack, b_row, b_length, hP, fun post hp => br_t (by rw [hB]; exact nI_le (Nat.le_refl _) (by omega)) hp⟩
  | succ r ih =>
    intro b g_paths g_many b_way b_tried b_stack b_row b_length hb hP
    have hT : ∀ e, e < fs nb + 1 → T e ≤ 12 := fun e he => (cg_FT12 G he).2
    have hb1 : ∀ e, e < fs nb + 1 → bk e ≤ 1 := fun e he => by rcases cg_bk G D he with h | ⟨h, _⟩ <;> omega
    have ent : ∀ (post : SY → Prop) J, (cp_s T bk (fs nb + 1) b = 0 → J (nI (b + 1)) g_made g_blocks g_edges g_paths g_many g_lastX g_lastY g_lastBlocks b_op b_number b_kind b_target b_from b_to b_exit b_weight b_firstEdge b_tree b_back b_row b_length b_gone b_done b_went b_cut b_kept b_mark b_way b_tried b_stack) → (cp_s T bk (fs nb + 1) b = 1 → wpY_pathsFrom (fun u => match u with | (g_made, g_blocks, g_edges, g_paths, g_many, g_lastX, g_lastY, g_lastBlocks, b_op, b_number, b_kind, b_target, b_from, b_to, b_exit, b_weight, b_firstEdge, b_tree, b_back, b_row, b_length, b_gone, b_done, b_went, b_cut, b_kept, b_mark, b_way, b_tried, b_stack) => (∀ x : Int32, x = nI b + 1 → J x g_made g_blocks g_edges g_paths g_many g_lastX g_lastY g_lastBlocks b_op b_number b_kind b_target b_from b_to b_exit b_weight b_firstEdge b_tree b_back b_row b_length b_gone b_done b_went b_cut b_kept b_mark b_way b_tried b_stack)) (g_made, g_blocks, g_edges, g_paths, g_many, g_lastX, g_lastY, g_lastBlocks, b_op, b_number, b_kind, b_target, b_from, b_to, b_exit, b_weight, b_firstEdge, b_tree, b_back, b_row, b_length, b_gone, b_done, b_went, b_cut, b_kept, b_mark, b_way, b_tried, b_stack) (nI b)) →
        (nI b = 0 → ∃ n32 : Nat, wY_findPaths_32 post J (nI b) g_made g_blocks g_edges g_paths g_many g_lastX g_lastY g_lastBlocks b_op b_number b_kind b_target b_from b_to b_exit b_weight b_firstEdge b_tree b_back b_row b_length b_gone b_done b_went b_cut b_kept b_mark b_way b_tried b_stack n32 1 0) ∧ (¬ nI b = 0 → ∃ n32 : Nat, wY_findPaths_32 post J (nI b) g_made g_blocks g_edges g_paths g_many g_lastX g_lastY g_lastBlocks b_op b_number b_kind b_target b_from b_to b_exit b_weight b_firstEdge b_tree b_back b_row b_length b_gone b_done b_went b_cut b_kept b_mark b_way b_tried b_stack n32 0 0) := by
      intro post J h0 h1
      have hh := cy_32 (ne := fs nb + 1) (b := b) (by omega) (by omega) hE hyt hT hyb hb1 post J h0 h1 (fs nb + 1) 0 (by omega)
      refine ⟨fun h => ?_, fun h => ?_⟩
      · have e0 : b = 0 := cd_im (b := 0) h (by omega) (by omega)
        rw [show cp_s T bk 0 b = 1 from if_pos e0] at hh; exact ⟨_, hh⟩
      · have e0 : b ≠ 0 := fun e => h (by rw [e]; rfl)
        rw [show cp_s T bk 0 b = 0 from if_neg e0] at hh; exact ⟨_, hh⟩
    rcases cp_s01 T bk (fs nb + 1) b with h | h
    · have hLs : cp_LL nb ki fs T bk (b + 1) = cp_LL nb ki fs T bk b := by
        show cp_LL nb ki fs T bk b ++ cp_B nb ki fs T bk b = _
        rw [show cp_B nb ki fs T bk b = [] from if_neg (by omega), List.append_nil]
      obtain ⟨gP, gM, way, tried, stack, row, len, q1, q2⟩ := ih (b + 1) g_paths g_many b_way b_tried b_stack b_row b_length (by omega) (by rw [hLs]; exact hP)
      exact ⟨gP, gM, way, tried, stack, row, len, q1, fun post hp => br_f (by rw [hB]; exact nI_ge (by omega) (by omega)) (ent post _ (fun _ => q2 post hp) (fun h' => by omega))⟩
    · obtain ⟨gP', gM', way', tried', stack', row', len', p1, p2⟩ := cy_from (g_made := g_made) (g_blocks := g_blocks) (g_edges := g_edges) (g_paths := g_paths) (g_many := g_many) (g_lastX := g_lastX) (g_lastY := g_lastY) (g_lastBlocks := g_lastBlocks) (b_op := b_op) (b_number := b_number) (b_kind := b_kind) (b_target := b_target) (b_from := b_from) (b_to := b_to) (b_exit := b_exit) (b_weight := b_weight) (b_firstEdge := b_firstEdge) (b_tree := b_tree) (b_back := b_back) (b_row := b_row) (b_length := b_length) (b_gone := b_gone) (b_done := b_done) (b_went := b_went) (b_cut := b_cut) (b_kept := b_kept) (b_mark := b_mark) (b_way := b_way) (b_tried := b_tried) (b_stack := b_stack) G D hki hyf hyt hyb h hP
      obtain ⟨gP, gM, way, tried, stack, row, len, q1, q2⟩ := ih (b + 1) gP' gM' way' tried' stack' row' len' (by omega) p1
      exact ⟨gP, gM, way, tried, stack, row, len, q1, fun post hp => br_f (by rw [hB]; exact nI_ge (by omega) (by omega)) (ent post _ (fun h' => by omega) (fun _ => p2 _ (nm_r (nI_1 b) (q2 post hp))))⟩
theorem cy_paths {nb : Nat} {ki fs F T m bk rk : Nat → Nat} (G : cg_GR nb ki fs F T) (D : cg_DF nb ki fs T m bk rk) (hB : g_blocks = nI nb) (hE : g_edges = nI (fs nb + 1)) (hki : ∀ b, b < nb → b_kind (12 + b) = nI (ki b)) (hyf : ∀ b, b < nb → b_firstEdge b = nI (fs b)) (hyt : ∀ e, e < fs nb + 1 → b_to e = cd_cv (T e)) (hyb : ∀ e, e < fs nb + 1 → b_back e = nI (bk e)) :
    ∃ (gP gM : Int32) (way tried stack row len : Nat → Int32), cr_PY (cp_LL nb ki fs T bk nb) gP gM row len ∧
      ∀ post : SY → Prop, post (g_made, g_blocks, g_edges, gP, gM, g_lastX, g_lastY, g_lastBlocks, b_op, b_number, b_kind, b_target, b_from, b_to, b_exit, b_weight, b_firstEdge, b_tree, b_back, row, len, b_gone, b_done, b_went, b_cut, b_kept, b_mark, way, tried, stack) → wpY_findPaths post (g_made, g_blocks, g_edges, g_paths, g_many, g_lastX, g_lastY, g_lastBlocks, b_op, b_number, b_kind, b_target, b_from, b_to, b_exit, b_weight, b_firstEdge, b_tree, b_back, b_row, b_length, b_gone, b_done, b_went, b_cut, b_kept, b_mark, b_way, b_tried, b_stack) := by
  obtain ⟨gP, gM, way, tried, stack, row, len, q1, q2⟩ := cy_12 (g_made := g_made) (g_blocks := g_blocks) (g_edges := g_edges) (g_lastX := g_lastX) (g_lastY := g_lastY) (g_lastBlocks := g_lastBlocks) (b_op := b_op) (b_number := b_number) (b_kind := b_kind) (b_target := b_target) (b_from := b_from) (b_to := b_to) (b_exit := b_exit) (b_weight := b_weight) (b_firstEdge := b_firstEdge) (b_tree := b_tree) (b_back := b_back) (b_gone := b_gone) (b_done := b_done) (b_went := b_went) (b_cut := b_cut) (b_kept := b_kept) (b_mark := b_mark) G D hB hE hki hyf hyt hyb nb 0 0 0 b_way b_tried b_stack b_row b_length (by omega) (Or.inl ⟨rfl, Nat.zero_le _, rfl, fun p hp => absurd hp (Nat.not_lt_zero _)⟩)
  exact ⟨gP, gM, way, tried, stack, row, len, q1, fun post hp => ⟨_, q2 post hp⟩⟩
end
end
section
/-! plant: the order of the edges -/
/-- the first m edges lie in places 1 .. m, in order -/
def cl_SO (w : Nat → Int) (m : Nat) (o : Nat → Nat) : Prop :=
  (∀ i, 1 ≤ i → i ≤ m → o i < m) ∧ (∀ i j, 1 ≤ i → i < j → j ≤ m → ct_R w (o i) (o j)) ∧ (∀ e, e < m → ∃ i, 1 ≤ i ∧ i ≤ m ∧ o i = e)
def cl_ins (o : Nat → Nat) (k m : Nat) : Nat → Nat := fun i => if i < k then o i else if i = k then m else o (i - 1)
theorem cl_SOi {w : Nat → Int} {m k : Nat} {o : Nat → Nat} (S : cl_SO w m o) (hk : 1 ≤ k) (hk' : k ≤ m + 1) (h1 : k = 1 ∨ w m ≤ w (o (k - 1))) (h2 : ∀ i, k ≤ i → i ≤ m → w (o i) < w m) : cl_SO w (m + 1) (cl_ins o k m) := by
  obtain ⟨s1, s2, s3⟩ := S
  have lo : ∀ i, 1 ≤ i → i < k → w m ≤ w (o i) := by
    intro i hi hik
    have hw : w m ≤ w (o (k - 1)) := by
      rcases h1 with h | h
      · omega
      · exact h
    by_cases e : i = k - 1
    · rw [e]; exact hw
    · have := s2 i (k - 1) hi (by omega) (by omega)
      unfold ct_R at this
      omega
  refine ⟨fun i hi hi' => ?_, fun i j hi hij hj => ?_, fun e he => ?_⟩
  · unfold cl_ins
    by_cases a1 : i < k
    · rw [if_pos a1]; have := s1 i hi (by omega); omega
    · rw [if_neg a1]
      by_cases a2 : i = k
      · rw [if_pos a2]; omega
      · rw [if_neg a2]; have := s1 (i - 1) (by omega) (by omega); omega
  · unfold cl_ins
    by_cases a1 : i < k
    · rw [if_pos a1]
      by_cases b1 : j < k
      · rw [if_pos b1]; exact s2 i j hi hij (by omega)
      · rw [if_neg b1]
        by_cases b2 : j = k
        · rw [if_pos b2]
          have := lo i hi a1
          have := s1 i hi (by omega)
          unfold ct_R; omega
        · rw [if_neg b2]; exact s2 i (j - 1) hi (by omega) (by omega)
    · rw [if_neg a1, if_neg (show ¬ j < k by omega), if_neg (show ¬ j = k by omega)]
      by_cases a2 : i = k
      · rw [if_pos a2]
        have := h2 (j - 1) (by omega) (by omega)
        unfold ct_R; omega
      · rw [if_neg a2]; exact s2 (i - 1) (j - 1) (by omega) (by omega) (by omega)
  · by_cases a : e = m
    · exact ⟨k, hk, hk', by unfold cl_ins; rw [if_neg (by omega), if_pos rfl]; exact a.symm⟩
    · obtain ⟨i, q1, q2, q3⟩ := s3 e (by omega)
      by_cases a1 : i < k
      · exact ⟨i, q1, by omega, by unfold cl_ins; rw [if_pos a1]; exact q3⟩
      · exact ⟨i + 1, by omega, by omega, by unfold cl_ins; rw [if_neg (by omega), if_neg (by omega)]; exact q3⟩
/-- the list of an order -/
def cl_ls (o : Nat → Nat) (n : Nat) : List Nat := (List.range n).map (fun i => o (i + 1))
theorem cl_lsg {o : Nat → Nat} {n i : Nat} (h : i < n) : (cl_ls o n)[i]? = some (o (i + 1)) := by
  unfold cl_ls; rw [List.getElem?_map, List.getElem?_range h]; rfl
theorem cl_lsl (o : Nat → Nat) (n : Nat) : (cl_ls o n).length = n := by unfold cl_ls; rw [List.length_map, List.length_range]
theorem cl_lsp {w : Nat → Int} {n : Nat} {o : Nat → Nat} (S : cl_SO w n o) : (cl_ls o n).Pairwise (ct_R w) := by
  rw [List.pairwise_iff_getElem]
  intro i j hi hj hij
  rw [cl_lsl] at hi hj
  have e1 := cl_lsg (o := o) hi
  have e2 := cl_lsg (o := o) hj
  rw [List.getElem?_eq_getElem (by rw [cl_lsl]; exact hi)] at e1
  rw [List.getElem?_eq_getElem (by rw [cl_lsl]; exact hj)] at e2
  rw [Option.some.inj e1, Option.some.inj e2]
  exact S.2.1 (i + 1) (j + 1) (by omega) (by omega) (by omega)
theorem cl_lsm {w : Nat → Int} {n : Nat} {o : Nat → Nat} (S : cl_SO w n o) (e : Nat) : e ∈ cl_ls o n ↔ e < n := by
  unfold cl_ls
  rw [List.mem_map]
  constructor
  · rintro ⟨i, hi, rfl⟩
    rw [List.mem_range] at hi
    exact S.1 (i + 1) (by omega) (by omega)
  · intro he
    obtain ⟨i, q1, q2, q3⟩ := S.2.2 e he
    exact ⟨i - 1, by rw [List.mem_range]; omega, by rw [Nat.sub_add_cancel q1]; exact q3⟩
section
variable {f_drafted f_blocks f_edges f_probed f_paths f_fresh f_x f_y f_steps : Int32} {a_op a_with a_kind a_target a_from a_to a_exit a_weights a_inTree a_back a_first a_probes a_joined a_order a_ahead a_met a_way a_ways a_adds a_begins a_hits a_cuts a_gone a_runs a_version a_counts a_known : Nat → Int32}
/-- one edge m finds its place -/
theorem cl_51 {m : Nat} {o : Nat → Nat} (hm : m < 36) (ho : ∀ i, i ≤ m → o i < 37) : ∀ k a_order, 1 ≤ k → k ≤ m + 1 → (∀ i, i < k → a_order i = nI (o i)) → (∀ i, k < i → i ≤ m + 1 → a_order i = nI (o (i - 1))) → (∀ i, k ≤ i → i ≤ m → (a_weights (o i)).toInt < (a_weights m).toInt) →
    ∃ (k' : Nat) (ord : Nat → Int32), 1 ≤ k' ∧ k' ≤ m + 1 ∧ (∀ i, i ≤ m + 1 → ord i = nI (cl_ins o k' m i)) ∧ (k' = 1 ∨ (a_weights m).toInt ≤ (a_weights (o (k' - 1))).toInt) ∧ (∀ i, k' ≤ i → i ≤ m → (a_weights (o i)).toInt < (a_weights m).toInt) ∧
      ∀ post J, J (nI (m + 1)) a_op a_with a_kind a_target a_from a_to a_exit a_weights a_inTree a_back a_first a_probes a_joined ord a_ahead a_met a_way a_ways a_adds a_begins a_hits a_cuts a_gone a_runs a_version a_counts a_known → wX_plant_51 post J (nI m) f_drafted f_blocks f_edges f_probed f_paths f_fresh f_x f_y f_steps k (nI k) a_op a_with a_kind a_target a_from a_to a_exit a_weights a_inTree a_back a_first a_probes a_joined a_order a_ahead a_met a_way a_ways a_adds a_begins a_hits a_cuts a_gone a_runs a_version a_counts a_known := by
  intro k
  induction k with
  | zero => intro a h; omega
  | succ k ih =>
    intro a_order hk hk' h1 h2 h3
    have fin : (k + 1 = 1 ∨ (a_weights m).toInt ≤ (a_weights (o (k + 1 - 1))).toInt) → (∃ (k' : Nat) (ord : Nat → Int32), 1 ≤ k' ∧ k' ≤ m + 1 ∧ (∀ i, i ≤ m + 1 → ord i = nI (cl_ins o k' m i)) ∧ (k' = 1 ∨ (a_weights m).toInt ≤ (a_weights (o (k' - 1))).toInt) ∧ (∀ i, k' ≤ i → i ≤ m → (a_weights (o i)).toInt < (a_weights m).toInt) ∧
      ∀ post J, J (nI (m + 1)) a_op a_with a_kind a_target a_from a_to a_exit a_weights a_inTree a_back a_first a_probes a_joined ord a_ahead a_met a_way a_ways a_adds a_begins a_hits a_cuts a_gone a_runs a_version a_counts a_known → wX_plant_98 post J (nI m) (nI (k + 1)) f_drafted f_blocks f_edges f_probed f_paths f_fresh f_x f_y f_steps a_op a_with a_kind a_target a_from a_to a_exit a_weights a_inTree a_back a_first a_probes a_joined a_order a_ahead a_met a_way a_ways a_adds a_begins a_hits a_cuts a_gone a_runs a_version a_counts a_known) := by
      intro hc
      refine ⟨k + 1, upd a_order (k + 1) (nI m), by omega, hk', fun i hi => ?_, hc, h3, fun post J hp => And.intro (vp_in_nI (by omega) (by omega)) (nm_r (cd_up rfl (by omega) (cd_nb (by omega))) (nm_r (nI_1 m) hp))⟩
      unfold cl_ins
      by_cases a1 : i < k + 1
      · rw [if_pos a1, pk_un (by omega)]; exact h1 i a1
      · rw [if_neg a1]
        by_cases a2 : i = k + 1
        · rw [if_pos a2, a2, pk_us]
        · rw [if_neg a2, pk_un a2]; exact h2 i (by omega) hi
    cases k with
    | zero =>
      obtain ⟨k', ord, q1, q2, q3, q4, q5, q6⟩ := fin (Or.inl rfl)
      exact ⟨k', ord, q1, q2, q3, q4, q5, fun post J hp => br_t (by decide) (q6 post J hp)⟩
    | succ k =>
      have hok := ho (k + 1) (by omega)
      have hoo := h1 (k + 1) (by omega)
      by_cases hw : a_weights m ≤ a_weights (o (k + 1))
      · obtain ⟨k', ord, q1, q2, q3, q4, q5, q6⟩ := fin (Or.inr (Int32.le_iff_toInt_le.mp hw))
        refine ⟨k', ord, q1, q2, q3, q4, q5, fun post J hp => br_f (nI_ge (a := 1) (by omega) (by omega)) ⟨pk_in (k + 1) 37 (by omega) (hx := nI_pred (k + 1)), pk_in (o (k + 1)) 37 hok (hx := cd_rd (nI_pred (k + 1)) (by omega) hoo), vp_in_nI (by omega) (by omega), br_t ?_ (q6 post J hp)⟩⟩
        rw [cd_rd (a := a_weights) rfl (by omega) rfl, cd_rd (a := a_weights) (cd_rd (nI_pred (k + 1)) (by omega) hoo) (by omega) rfl]; exact hw
      · obtain ⟨k', ord, q1, q2, q3, q4, q5, q6⟩ := ih (upd a_order (k + 2) (nI (o (k + 1)))) (by omega) (by omega) (fun i hi => by rw [pk_un (by omega)]; exact h1 i (by omega)) (fun i hi hi' => by
            by_cases e : i = k + 2
            · rw [e, pk_us]; rfl
            · rw [pk_un e]; exact h2 i (by omega) hi') (fun i hi hi' => by
            by_cases e : i = k + 1
            · rw [e]
              have : ¬ (a_weights m).toInt ≤ (a_weights (o (k + 1))).toInt := fun h => hw (Int32.le_iff_toInt_le.mpr h)
              omega
            · exact h3 i (by omega) hi')
        refine ⟨k', ord, q1, q2, q3, q4, q5, fun post J hp => br_f (nI_ge (a := 1) (by omega) (by omega)) ⟨pk_in (k + 1) 37 (by omega) (hx := nI_pred (k + 1)), pk_in (o (k + 1)) 37 hok (hx := cd_rd (nI_pred (k + 1)) (by omega) hoo), vp_in_nI (by omega) (by omega), br_f ?_ ⟨pk_in (k + 1) 37 (by omega) (hx := nI_pred (k + 1)), vp_in_nI (by omega) (by omega), nm_r (cd_up rfl (by omega) ?_) (nm_r (pk_m1 (k + 1)) (q6 post J hp))⟩⟩⟩
        · rw [cd_rd (a := a_weights) rfl (by omega) rfl, cd_rd (a := a_weights) (cd_rd (nI_pred (k + 1)) (by omega) hoo) (by omega) rfl]; exact hw
        · rw [cd_rd (nI_pred (k + 1)) (by omega) hoo, cd_nb' (by omega)]
/-- all edges but the last find their places -/
theorem cl_37 {n : Nat} (hn : n < 37) (hE : f_edges = nI (n + 1)) : ∀ r m o a_order, m + r = n → cl_SO (fun e => (a_weights e).toInt) m o → o 0 = n → (∀ i, i ≤ m → a_order i = nI (o i)) →
    ∃ (o' : Nat → Nat) (ord : Nat → Int32), cl_SO (fun e => (a_weights e).toInt) n o' ∧ o' 0 = n ∧ (∀ i, i ≤ n → ord i = nI (o' i)) ∧
      ∀ post : SX → Prop, (∃ n114 : Nat, wX_plant_114 post f_drafted f_blocks f_edges f_probed f_paths f_fresh f_x f_y f_steps n114 0 a_op a_with a_kind a_target a_from a_to a_exit a_weights a_inTree a_back a_first a_probes a_joined ord a_ahead a_met a_way a_ways a_adds a_begins a_hits a_cuts a_gone a_runs a_version a_counts a_known) → wX_plant_37 post f_drafted f_blocks f_edges f_probed f_paths f_fresh f_x f_y f_steps (r + 1) (nI m) a_op a_with a_kind a_target a_from a_to a_exit a_weights a_inTree a_back a_first a_probes a_joined a_order a_ahead a_met a_way a_ways a_adds a_begins a_hits a_cuts a_gone a_runs a_version a_counts a_known := by
  intro r
  induction r with
  | zero =>
    intro m o a_order hm S h0 hI
    have e : m = n := by omega
    subst e
    exact ⟨o, a_order, S, h0, hI, fun post hp => br_t (by rw [hE, nI_pred]; exact nI_le (Nat.le_refl _) (by omega)) hp⟩
  | succ r ih =>
    intro m o a_order hm S h0 hI
    obtain ⟨k', ord, q1, q2, q3, q4, q5, q6⟩ := cl_51 (f_drafted := f_drafted) (f_blocks := f_blocks) (f_edges := f_edges) (f_probed := f_probed) (f_paths := f_paths) (f_fresh := f_fresh) (f_x := f_x) (f_y := f_y) (f_steps := f_steps) (a_op := a_op) (a_with := a_with) (a_kind := a_kind) (a_target := a_target) (a_from := a_from) (a_to := a_to) (a_exit := a_exit) (a_weights := a_weights) (a_inTree := a_inTree) (a_back := a_back) (a_first := a_first) (a_probes := a_probes) (a_joined := a_joined) (a_ahead := a_ahead) (a_met := a_met) (a_way := a_way) (a_ways := a_ways) (a_adds := a_adds) (a_begins := a_begins) (a_hits := a_hits) (a_cuts := a_cuts) (a_gone := a_gone) (a_runs := a_runs) (a_version := a_version) (a_counts := a_counts) (a_known := a_known) (m := m) (o := o) (by omega) (fun i hi => by
      by_cases e : i = 0
      · rw [e, h0]; omega
      · have := S.1 i (by omega) hi; omega) (m + 1) a_order (by omega) (Nat.le_refl _) (fun i hi => hI i (by omega)) (fun i hi hi' => by omega) (fun i hi hi' => by omega)
    obtain ⟨o', ord', p1, p2, p3, p4⟩ := ih (m + 1) (cl_ins o k' m) ord (by omega) (cl_SOi (w := fun e => (a_weights e).toInt) S q1 q2 q4 q5) (by unfold cl_ins; rw [if_pos (by omega)]; exact h0) q3
    refine ⟨o', ord', p1, p2, p3, fun post hp => br_f (by rw [hE, nI_pred]; exact nI_ge (by omega) (by omega)) (nm_r (nI_1 m) ⟨m + 1, q6 post _ (p4 post hp)⟩)⟩
end
end
section
/-! plant: roots and the tree -/
/-- joined holds a forest: r the root of a place, d its depth -/
def cl_J (jn : Nat → Int32) (r d : Nat → Nat) : Prop :=
  (∀ p, p < 13 → r p < 13 ∧ jn (r p) = nI (r p)) ∧ ∀ p, p < 13 → ∃ q, q < 13 ∧ jn p = nI q ∧ ((q = p ∧ r p = p) ∨ (q ≠ p ∧ r q = r p ∧ d q < d p))
theorem cl_Jrr {jn : Nat → Int32} {r d : Nat → Nat} (J : cl_J jn r d) {p : Nat} (hp : p < 13) : r (r p) = r p := by
  obtain ⟨h1, h2⟩ := J.1 p hp
  obtain ⟨q, q1, q2, q3⟩ := J.2 (r p) h1
  have e : q = r p := cd_im (q2.symm.trans h2) (by omega) (by omega)
  rcases q3 with ⟨_, h⟩ | ⟨h, _⟩
  · exact h
  · exact absurd e h
theorem cl_Jl {jn : Nat → Int32} {r d : Nat → Nat} (J : cl_J jn r d) {a b : Nat} (ha : a < 13) (hb : b < 13) :
    ∃ d', cl_J (upd jn (r a) (nI (r b))) (fun p => if r p = r a then r b else r p) d' := by
  have hra := J.1 a ha
  have hrb := J.1 b hb
  by_cases e : r a = r b
  · refine ⟨d, ⟨fun p hp => ?_, fun p hp => ?_⟩⟩
    · have h := J.1 p hp
      dsimp only
      by_cases e1 : r p = r a
      · rw [if_pos e1, ← e]; exact ⟨hra.1, pk_us⟩
      · rw [if_neg e1, pk_un e1]; exact h
    · have hid : ∀ x, (if r x = r a then r b else r x) = r x := by
        intro x; by_cases e1 : r x = r a
        · rw [if_pos e1, e1, e]
        · rw [if_neg e1]
      dsimp only
      rw [hid p]
      obtain ⟨q, q1, q2, q3⟩ := J.2 p hp
      refine ⟨q, q1, ?_, ?_⟩
      · by_cases e1 : p = r a
        · rw [e1, pk_us, ← e]
          have := hra.2
          rw [e1] at q2; rw [← q2]; exact this.symm
        · rw [pk_un e1]; exact q2
      · rw [hid q]; exact q3
  · refine ⟨fun p => if r p = r a then d p + d (r b) + 1 else d p, ⟨fun p hp => ?_, fun p hp => ?_⟩⟩
    · have h := J.1 p hp
      dsimp only
      by_cases e1 : r p = r a
      · rw [if_pos e1, pk_un (Ne.symm e)]; exact hrb
      · rw [if_neg e1, pk_un e1]; exact h
    · obtain ⟨q, q1, q2, q3⟩ := J.2 p hp
      dsimp only
      by_cases e1 : p = r a
      · have e2 : r p = r a := by rw [e1]; exact cl_Jrr J ha
        have e3 : r (r b) = r b := cl_Jrr J hb
        refine ⟨r b, hrb.1, by rw [e1, pk_us], Or.inr ⟨?_, ?_, ?_⟩⟩
        · rw [e1]; exact Ne.symm e
        · rw [if_pos e2, e3, if_neg (Ne.symm e)]
        · rw [e3, if_neg (Ne.symm e), if_pos e2]; omega
      · refine ⟨q, q1, by rw [pk_un e1]; exact q2, ?_⟩
        rcases q3 with ⟨h1, h2⟩ | ⟨h1, h2, h3⟩
        · refine Or.inl ⟨h1, ?_⟩
          rw [if_neg (by rw [h2]; exact e1)]; exact h2
        · refine Or.inr ⟨h1, by rw [h2], ?_⟩
          rw [h2]
          by_cases e2 : r p = r a
          · rw [if_pos e2, if_pos e2]; omega
          · rw [if_neg e2, if_neg e2]; exact h3
section
variable {f_drafted f_blocks f_edges f_probed f_paths f_fresh f_x f_y f_steps : Int32} {a_op a_with a_kind a_target a_from a_to a_exit a_weights a_inTree a_back a_first a_probes a_joined a_order a_ahead a_met a_way a_ways a_adds a_begins a_hits a_cuts a_gone a_runs a_version a_counts a_known : Nat → Int32}
theorem cl_root {r d : Nat → Nat} (J : cl_J a_joined r d) : ∀ k p, d p < k → p < 13 → ∀ post : Int32 → Prop, post (nI (r p)) → wX_root_2 post f_drafted f_blocks f_edges f_probed f_paths f_fresh f_x f_y f_steps a_op a_with a_kind a_target a_from a_to a_exit a_weights a_inTree a_back a_first a_probes a_joined a_order a_ahead a_met a_way a_ways a_adds a_begins a_hits a_cuts a_gone a_runs a_version a_counts a_known k (nI p) := by
  intro k
  induction k with
  | zero => intro p h; omega
  | succ k ih =>
    intro p hd hp post hq
    obtain ⟨q, q1, q2, q3⟩ := J.2 p hp
    refine And.intro (vp_in_nI hp (by omega)) ?_
    rcases q3 with ⟨h1, h2⟩ | ⟨h1, h2, h3⟩
    · rw [h2] at hq
      exact br_t (by rw [cd_rd rfl (by omega) q2, h1]) hq
    · exact br_f (by rw [cd_rd rfl (by omega) q2]; exact fun h => h1 (cd_im h (by omega) (by omega))) ⟨vp_in_nI hp (by omega), nm_r (cd_rd rfl (by omega) q2) (ih q (by omega) q1 post (by rw [h2]; exact hq))⟩
/-- the edges are joined in the order of the list -/
theorem cl_114 {nb : Nat} {ki fs F T : Nat → Nat} (G : cg_GR nb ki fs F T) (hE : f_edges = nI (fs nb + 1)) (hfr : ∀ e, e < fs nb + 1 → a_from e = nI (F e)) (hto : ∀ e, e < fs nb + 1 → a_to e = nI (T e)) :
    ∀ (l : List Nat) k c r d a_joined a_inTree, k + l.length = fs nb + 1 → (∀ i x, l[i]? = some x → a_order (k + i) = nI x) → (∀ x, x ∈ l → x < fs nb + 1) → l.Nodup → cl_J a_joined r d → ct_al r c →
      ∃ jn inT : Nat → Int32, (∀ x, x ∈ l → inT x = nI (ct_tv F T l c x)) ∧ (∀ x, ¬ x ∈ l → inT x = a_inTree x) ∧
        ∀ post : SX → Prop, (∃ n191 : Nat, wX_plant_191 post f_drafted f_blocks f_edges f_paths f_fresh f_x f_y f_steps n191 0 0 a_op a_with a_kind a_target a_from a_to a_exit a_weights inT a_back a_first a_probes jn a_order a_ahead a_met a_way a_ways a_adds a_begins a_hits a_cuts a_gone a_runs a_version a_counts a_known) → wX_plant_114 post f_drafted f_blocks f_edges f_probed f_paths f_fresh f_x f_y f_steps (l.length + 1) (nI k) a_op a_with a_kind a_target a_from a_to a_exit a_weights a_inTree a_back a_first a_probes a_joined a_order a_ahead a_met a_way a_ways a_adds a_begins a_hits a_cuts a_gone a_runs a_version a_counts a_known := by
  have hne := cg_ne G
  intro l
  induction l with
  | nil =>
    intro k c r d a_joined a_inTree hk ho hx hn J A
    refine ⟨a_joined, a_inTree, fun x h => absurd h List.not_mem_nil, fun _ _ => rfl, fun post hp => br_t ?_ hp⟩
    rw [hE]; rw [List.length_nil] at hk; exact nI_le (by omega) (by omega)
  | cons a l ih =>
    intro k c r d a_joined a_inTree hk ho hx hn J A
    rw [List.length_cons] at hk
    have ha := hx a List.mem_cons_self
    have hoa : a_order k = nI a := ho 0 a rfl
    obtain ⟨hF, hT⟩ := cg_FT12 G ha
    obtain ⟨d', J'⟩ := cl_Jl J (show F a < 13 by omega) (show T a < 13 by omega)
    have A' := ct_alj (F := F) (T := T) (e := a) A (by omega) (by omega)
    have hAe := A (F a) (T a) (by omega) (by omega)
    have hrF := (J.1 (F a) (by omega)).1
    have hrT := (J.1 (T a) (by omega)).1
    obtain ⟨hna, hnl⟩ := List.nodup_cons.mp hn
    obtain ⟨jn, inT, q1, q2, q3⟩ := ih (k + 1) (ct_jc F T c a) _ d' (upd a_joined (r (F a)) (nI (r (T a)))) (upd a_inTree a (nI (if c (F a) = c (T a) then 0 else 1))) (by omega) (fun i x h => by
        have := ho (i + 1) x h
        rw [show k + 1 + i = k + (i + 1) by omega]; exact this) (fun x h => hx x (List.mem_cons_of_mem _ h)) hnl J' A'
    refine ⟨jn, inT, fun x h => ?_, fun x h => ?_, fun post hp => ?_⟩
    · unfold ct_tv
      by_cases e : a = x
      · subst e; rw [if_pos rfl, q2 a hna, pk_us]
      · rw [if_neg e]
        rcases List.mem_cons.mp h with h' | h'
        · exact absurd h'.symm e
        · exact q1 x h'
    · rw [q2 x (fun h' => h (List.mem_cons_of_mem _ h')), pk_un (by intro e; subst e; exact h List.mem_cons_self)]
    · have hR := fun p (hp : p < 13) => cl_root (f_drafted := f_drafted) (f_blocks := f_blocks) (f_edges := f_edges) (f_probed := f_probed) (f_paths := f_paths) (f_fresh := f_fresh) (f_x := f_x) (f_y := f_y) (f_steps := f_steps) (a_op := a_op) (a_with := a_with) (a_kind := a_kind) (a_target := a_target) (a_from := a_from) (a_to := a_to) (a_exit := a_exit) (a_weights := a_weights) (a_inTree := a_inTree) (a_back := a_back) (a_first := a_first) (a_probes := a_probes) (a_joined := a_joined) (a_order := a_order) (a_ahead := a_ahead) (a_met := a_met) (a_way := a_way) (a_ways := a_ways) (a_adds := a_adds) (a_begins := a_begins) (a_hits := a_hits) (a_cuts := a_cuts) (a_gone := a_gone) (a_runs := a_runs) (a_version := a_version) (a_counts := a_counts) (a_known := a_known) (r := r) (d := d) J (d p + 1) p (by omega) hp
      refine br_f (by rw [hE]; exact nI_ge (by omega) (by omega)) ⟨vp_in_nI (by omega) (by omega), nm_r (cd_rd rfl (by omega) hoa) ⟨vp_in_nI (by omega) (by omega), ?_⟩⟩
      rw [cd_rd rfl (by omega) (hfr a ha), cd_rd rfl (by omega) (hto a ha)]
      refine Exists.intro _ (hR (F a) (by omega) _ ⟨vp_in_nI (by omega) (by omega), Exists.intro _ (hR (T a) (by omega) _ ?_)⟩)
      refine pk_eq (r (F a)) (r (T a)) (fun h => ?_) (fun h => ?_)
      · refine And.intro (vp_in_nI (by omega) (by omega)) (nm_r (cd_up rfl (by omega) (cd_z0.trans ?_)) ⟨vp_in_nI (by omega) (by omega), nm_r (cd_up rfl (by omega) (cd_nb (by omega))) (nm_r (nI_1 k) (q3 post hp))⟩)
        rw [if_pos (hAe.mp h)]; rfl
      · refine And.intro (vp_in_nI (by omega) (by omega)) (nm_r (cd_up rfl (by omega) (cd_z1.trans ?_)) ⟨vp_in_nI (by omega) (by omega), nm_r (cd_up rfl (by omega) (cd_nb (by omega))) (nm_r (nI_1 k) (q3 post hp))⟩)
        rw [if_neg (fun h' => h (hAe.mpr h'))]; rfl
theorem cr_ntl {tr : Nat → Nat} {a : Nat} (h : tr a = 0) : ∀ b, a < b → cr_nt tr a < cr_nt tr b := by
  intro b
  induction b with
  | zero => intro h; omega
  | succ b ih =>
    intro hab
    unfold cr_nt at *
    simp only [cs_n]
    by_cases e : a = b
    · subst e; omega
    · have := ih (by omega); omega
theorem cr_ntle (tr : Nat → Nat) : ∀ b, cr_nt tr b ≤ b := fun b => cs_nle (fun i _ => by omega)
/-- the probes are noted -/
theorem cl_191 {ne : Nat} {tr : Nat → Nat} (hne : ne ≤ 37) (hE : f_edges = nI ne) (htr : ∀ e, e < ne → tr e ≤ 1) (hin : ∀ e, e < ne → a_inTree e = nI (tr e)) : ∀ r e a_probes, e + r = ne → (∀ x, x < e → tr x = 0 → a_probes (cr_nt tr x) = nI x) →
    ∃ pr : Nat → Int32, (∀ x, x < ne → tr x = 0 → pr (cr_nt tr x) = nI x) ∧
      ∀ post : SX → Prop, wpX_zero (fun u => match u with | (f_drafted, f_blocks, f_edges, f_probed, f_paths, f_fresh, f_x, f_y, f_steps, a_op, a_with, a_kind, a_target, a_from, a_to, a_exit, a_weights, a_inTree, a_back, a_first, a_probes, a_joined, a_order, a_ahead, a_met, a_way, a_ways, a_adds, a_begins, a_hits, a_cuts, a_gone, a_runs, a_version, a_counts, a_known) => post (f_drafted, f_blocks, f_edges, f_probed, f_paths, f_fresh, f_x, f_y, f_steps, a_op, a_with, a_kind, a_target, a_from, a_to, a_exit, a_weights, a_inTree, a_back, a_first, a_probes, a_joined, a_order, a_ahead, a_met, a_way, a_ways, a_adds, a_begins, a_hits, a_cuts, a_gone, a_runs, a_version, a_counts, a_known)) (f_drafted, f_blocks, f_edges, nI (cr_nt tr ne), f_paths, f_fresh, f_x, f_y, f_steps, a_op, a_with, a_kind, a_target, a_from, a_to, a_exit, a_weights, a_inTree, a_back, a_first, pr, a_joined, a_order, a_ahead, a_met, a_way, a_ways, a_adds, a_begins, a_hits, a_cuts, a_gone, a_runs, upd a_version 0 (a_version 0 + 1), a_counts, a_known) → wX_plant_191 post f_drafted f_blocks f_edges f_paths f_fresh f_x f_y f_steps (r + 1) (nI e) (nI (cr_nt tr e)) a_op a_with a_kind a_target a_from a_to a_exit a_weights a_inTree a_back a_first a_probes a_joined a_order a_ahead a_met a_way a_ways a_adds a_begins a_hits a_cuts a_gone a_runs a_version a_counts a_known := by
  intro r
  induction r with
  | zero =>
    intro e a_probes he hI
    have e1 : e = ne := by omega
    subst e1
    exact ⟨a_probes, hI, fun post hp => br_t (by rw [hE]; exact nI_le (Nat.le_refl _) (by omega)) (nm_e hp)⟩
  | succ r ih =>
    intro e a_probes he hI
    have hlt : e < ne := by omega
    have hle := cr_ntle tr e
    have hs : cr_nt tr (e + 1) = cr_nt tr e + (1 - tr e) := rfl
    by_cases h0 : tr e = 0
    · obtain ⟨pr, q1, q2⟩ := ih (e + 1) (upd a_probes (cr_nt tr e) (nI e)) (by omega) (fun x hx hx0 => by
        by_cases ex : x = e
        · subst ex; exact pk_us
        · rw [pk_un (by have := cr_ntl hx0 e (by omega); omega)]; exact hI x (by omega) hx0)
      refine ⟨pr, q1, fun post hp => br_f (by rw [hE]; exact nI_ge hlt (by omega)) ⟨vp_in_nI (by omega) (by omega), br_t (by rw [cd_rd rfl (by omega) (hin e hlt), h0]; rfl) (nm_r (nI_1 _) ⟨vp_in_nI (by omega) (by omega), nm_r (cd_up rfl (by omega) (cd_nb (by omega))) (nm_r (nI_1 e) ?_)⟩)⟩⟩
      have := q2 post hp
      rw [hs, h0] at this; exact this
    · obtain ⟨pr, q1, q2⟩ := ih (e + 1) a_probes (by omega) (fun x hx hx0 => by
        have ex : x ≠ e := by intro ex; subst ex; exact h0 hx0
        exact hI x (by omega) hx0)
      have ht := htr e hlt
      refine ⟨pr, q1, fun post hp => br_f (by rw [hE]; exact nI_ge hlt (by omega)) ⟨vp_in_nI (by omega) (by omega), br_f (by rw [cd_rd rfl (by omega) (hin e hlt)]; exact nI_ne0 (by omega) (by omega)) (nm_r (nI_1 e) ?_)⟩⟩
      have := q2 post hp
      rw [hs, show tr e = 1 by omega] at this; exact this
end
end
section
/-! plant as a whole -/
def cl_c0 (p : Nat) : Nat := (p + 1) % 13
def cl_tr (nb : Nat) (fs F T : Nat → Nat) (l : List Nat) : Nat → Nat := ct_tv F T (fs nb :: l) cl_c0
section
variable {f_drafted f_blocks f_edges f_probed f_paths f_fresh f_x f_y f_steps : Int32} {a_op a_with a_kind a_target a_from a_to a_exit a_weights a_inTree a_back a_first a_probes a_joined a_order a_ahead a_met a_way a_ways a_adds a_begins a_hits a_cuts a_gone a_runs a_version a_counts a_known : Nat → Int32}
theorem cl_plant {nb : Nat} {ki fs F T : Nat → Nat} (G : cg_GR nb ki fs F T) (hE : f_edges = nI (fs nb + 1)) (hfr : ∀ e, e < fs nb + 1 → a_from e = nI (F e)) (hto : ∀ e, e < fs nb + 1 → a_to e = nI (T e)) :
    ∃ (l : List Nat) (jn ord inT pr h c w : Nat → Int32), l.Pairwise (ct_R (fun e => (a_weights e).toInt)) ∧ (∀ e, e ∈ l ↔ e < fs nb) ∧ (∀ x, x < fs nb + 1 → inT x = nI (cl_tr nb fs F T l x)) ∧ (∀ x, x < fs nb + 1 → cl_tr nb fs F T l x = 0 → pr (cr_nt (cl_tr nb fs F T l) x) = nI x) ∧
      ((∀ i, i < 37 → h i = 0) ∧ (∀ i, 37 ≤ i → h i = a_hits i) ∧ (∀ i, i < 12 → c i = 0) ∧ (∀ i, 12 ≤ i → c i = a_cuts i) ∧ (∀ i, i < 300 → w i = 0) ∧ (∀ i, 300 ≤ i → w i = a_gone i)) ∧
      ∀ post : SX → Prop, post (f_drafted, f_blocks, f_edges, nI (cr_nt (cl_tr nb fs F T l) (fs nb + 1)), f_paths, 0, f_x, f_y, f_steps, a_op, a_with, a_kind, a_target, a_from, a_to, a_exit, a_weights, inT, a_back, a_first, pr, jn, ord, a_ahead, a_met, a_way, a_ways, a_adds, a_begins, h, c, w, upd a_runs 0 0, upd a_version 0 (a_version 0 + 1), a_counts, a_known) → wpX_plant post (f_drafted, f_blocks, f_edges, f_probed, f_paths, f_fresh, f_x, f_y, f_steps, a_op, a_with, a_kind, a_target, a_from, a_to, a_exit, a_weights, a_inTree, a_back, a_first, a_probes, a_joined, a_order, a_ahead, a_met, a_way, a_ways, a_adds, a_begins, a_hits, a_cuts, a_gone, a_runs, a_version, a_counts, a_known) := by
  have hnb := G.2.1
  have hne := cg_ne G
  obtain ⟨hz1, hz2⟩ := cw_fs (t := fun j => j) (v := fun _ j => nI j) (N := 13) (fun i j _ _ h => h) (fun _ _ _ _ _ _ _ => rfl) 13 0 a_joined (by omega)
  generalize hJn : cw_f (fun j => j) (fun _ j => nI j) 13 0 a_joined = Jn at hz1 hz2
  have hJ0 : ∀ p, p < 13 → Jn p = nI p := fun p hp => hz1 p hp (by omega)
  obtain ⟨o, ord, S, o0, ho, k1⟩ := cl_37 (f_drafted := f_drafted) (f_blocks := f_blocks) (f_edges := f_edges) (f_probed := f_probed) (f_paths := f_paths) (f_fresh := f_fresh) (f_x := f_x) (f_y := f_y) (f_steps := f_steps) (a_op := a_op) (a_with := a_with) (a_kind := a_kind) (a_target := a_target) (a_from := a_from) (a_to := a_to) (a_exit := a_exit) (a_weights := a_weights) (a_inTree := a_inTree) (a_back := a_back) (a_first := a_first) (a_probes := a_probes) (a_ahead := a_ahead) (a_met := a_met) (a_way := a_way) (a_ways := a_ways) (a_adds := a_adds) (a_begins := a_begins) (a_hits := a_hits) (a_cuts := a_cuts) (a_gone := a_gone) (a_runs := a_runs) (a_version := a_version) (a_counts := a_counts) (a_known := a_known) (a_joined := Jn) (n := fs nb) (by omega) hE (fs nb) 0 (fun _ => fs nb) (upd a_order 0 (nI (fs nb))) (by omega) ⟨fun i h1 h2 => by omega, fun i j h1 h2 h3 => by omega, fun e he => by omega⟩ rfl (fun i hi => by
    have e : i = 0 := by omega
    rw [e, pk_us])
  have hnod : (fs nb :: cl_ls o (fs nb)).Nodup := List.nodup_cons.mpr ⟨fun h => by have := (cl_lsm S _).mp h; omega, ct_Rn (cl_lsp S)⟩
  have hmem : ∀ x, x ∈ fs nb :: cl_ls o (fs nb) ↔ x < fs nb + 1 := by
    intro x
    rw [List.mem_cons, cl_lsm S]; omega
  obtain ⟨jn, inT, q1, q2, q3⟩ := cl_114 (f_drafted := f_drafted) (f_blocks := f_blocks) (f_edges := f_edges) (f_probed := f_probed) (f_paths := f_paths) (f_fresh := f_fresh) (f_x := f_x) (f_y := f_y) (f_steps := f_steps) (a_op := a_op) (a_with := a_with) (a_kind := a_kind) (a_target := a_target) (a_from := a_from) (a_to := a_to) (a_exit := a_exit) (a_weights := a_weights) (a_back := a_back) (a_first := a_first) (a_probes := a_probes) (a_ahead := a_ahead) (a_met := a_met) (a_way := a_way) (a_ways := a_ways) (a_adds := a_adds) (a_begins := a_begins) (a_hits := a_hits) (a_cuts := a_cuts) (a_gone := a_gone) (a_runs := a_runs) (a_version := a_version) (a_counts := a_counts) (a_known := a_known) (a_order := ord) G hE hfr hto (fs nb :: cl_ls o (fs nb)) 0 cl_c0 (fun p => p) (fun _ => 0) Jn a_inTree (by rw [List.length_cons, cl_lsl]; omega) (fun i x hx => by
      cases i with
      | zero =>
        have e : fs nb = x := Option.some.inj hx
        rw [ho _ (by omega), o0, e]
      | succ i =>
        rw [List.getElem?_cons_succ] at hx
        have hi := (List.getElem?_eq_some_iff.mp hx).1
        rw [cl_lsl] at hi
        rw [cl_lsg hi] at hx
        rw [Nat.zero_add, ho _ (by omega), Option.some.inj hx]) (fun x hx => (hmem x).mp hx) hnod
    ⟨fun p hp => ⟨hp, hJ0 p hp⟩, fun p hp => ⟨p, hp, hJ0 p hp, Or.inl ⟨rfl, rfl⟩⟩⟩ (fun p q hp hq => by show p = q ↔ _; unfold cl_c0; omega)
  have hin : ∀ x, x < fs nb + 1 → inT x = nI (cl_tr nb fs F T (cl_ls o (fs nb)) x) := fun x hx => q1 x ((hmem x).mpr hx)
  obtain ⟨pr, p1, p2⟩ := cl_191 (f_drafted := f_drafted) (f_blocks := f_blocks) (f_edges := f_edges) (f_paths := f_paths) (f_fresh := f_fresh) (f_x := f_x) (f_y := f_y) (f_steps := f_steps) (a_op := a_op) (a_with := a_with) (a_kind := a_kind) (a_target := a_target) (a_from := a_from) (a_to := a_to) (a_exit := a_exit) (a_weights := a_weights) (a_back := a_back) (a_first := a_first) (a_ahead := a_ahead) (a_met := a_met) (a_way := a_way) (a_ways := a_ways) (a_adds := a_adds) (a_begins := a_begins) (a_hits := a_hits) (a_cuts := a_cuts) (a_gone := a_gone) (a_runs := a_runs) (a_version := a_version) (a_counts := a_counts) (a_known := a_known) (a_order := ord) (a_joined := jn) (a_inTree := inT) (ne := fs nb + 1) (tr := cl_tr nb fs F T (cl_ls o (fs nb))) (by omega) hE (fun e _ => ct_tv01 F T _ _ e) hin (fs nb + 1) 0 a_probes (by omega) (fun x hx => by omega)
  obtain ⟨h, c, w, z1, z2, z3, z4, z5, z6, z7⟩ := cw_zero (f_drafted := f_drafted) (f_blocks := f_blocks) (f_edges := f_edges) (f_paths := f_paths) (f_fresh := f_fresh) (f_x := f_x) (f_y := f_y) (f_steps := f_steps) (a_op := a_op) (a_with := a_with) (a_kind := a_kind) (a_target := a_target) (a_from := a_from) (a_to := a_to) (a_exit := a_exit) (a_weights := a_weights) (a_back := a_back) (a_first := a_first) (a_ahead := a_ahead) (a_met := a_met) (a_way := a_way) (a_ways := a_ways) (a_adds := a_adds) (a_begins := a_begins) (a_hits := a_hits) (a_cuts := a_cuts) (a_gone := a_gone) (a_runs := a_runs) (a_counts := a_counts) (a_known := a_known) (f_probed := nI (cr_nt (cl_tr nb fs F T (cl_ls o (fs nb))) (fs nb + 1))) (a_order := ord) (a_joined := jn) (a_inTree := inT) (a_probes := pr) (a_version := upd a_version 0 (a_version 0 + 1))
  refine ⟨cl_ls o (fs nb), jn, ord, inT, pr, h, c, w, cl_lsp S, cl_lsm S, hin, p1, ⟨z1, z2, z3, z4, z5, z6⟩, fun post hp => ?_⟩
  refine Exists.intro 14 (cw_fl (W := fun n x a => wX_plant_2 post f_drafted f_blocks f_edges f_probed f_paths f_fresh f_x f_y f_steps n x a_op a_with a_kind a_target a_from a_to a_exit a_weights a_inTree a_back a_first a_probes a a_order a_ahead a_met a_way a_ways a_adds a_begins a_hits a_cuts a_gone a_runs a_version a_counts a_known) (Q := fun a => ∃ n37 : Nat, wX_plant_37 post f_drafted f_blocks f_edges f_probed f_paths f_fresh f_x f_y f_steps n37 0 a_op a_with a_kind a_target a_from a_to a_exit a_weights a_inTree a_back a_first a_probes a (upd a_order 0 (nI (fs nb))) a_ahead a_met a_way a_ways a_adds a_begins a_hits a_cuts a_gone a_runs a_version a_counts a_known) (fun j => j) (fun _ j => nI j) 13 ?_ ?_ 13 0 a_joined (by omega) ?_)
  · intro n a hQ; exact br_t (nI_le (a := 13) (Nat.le_refl _) (by omega)) (nm_r (congrArg (upd a_order 0) (by rw [hE, nI_pred, cd_nb (by omega)])) hQ)
  · intro n j a hj h; exact br_f (nI_ge (b := 13) hj (by omega)) ⟨vp_in_nI (by omega) (by omega), nm_r (cd_up rfl (by omega) (cd_nb (by omega))) (nm_r (nI_1 j) h)⟩
  · rw [hJn]
    exact ⟨_, k1 post ⟨_, q3 post ⟨_, p2 post (z7 _ hp)⟩⟩⟩
end
end
section
/-! the reference's tree: join -/
theorem cj_lt (x : Int32) (A : Int64) : x.toInt64 < A ↔ x.toInt < A.toInt := by rw [Int64.lt_iff_toInt_lt, Int32.toInt_toInt64]
theorem cj_gt (x : Int32) (A : Int64) : A < x.toInt64 ↔ A.toInt < x.toInt := by rw [Int64.lt_iff_toInt_lt, Int32.toInt_toInt64]
theorem cj_le (x : Int32) (A : Int64) : A ≤ x.toInt64 ↔ A.toInt ≤ x.toInt := by rw [Int64.le_iff_toInt_le, Int32.toInt_toInt64]
theorem cj_eq (x : Int32) (A : Int64) : x.toInt64 = A ↔ x.toInt = A.toInt := by rw [← Int64.toInt_inj, Int32.toInt_toInt64]
theorem cj_a1 (x : Int32) : (x.toInt64 + 1).toInt = x.toInt + 1 := by
  have h1 := x.le_toInt
  have h2 := x.toInt_lt
  have e : (1 : Int64).toInt = 1 := by decide
  rw [Int64.toInt_add, Int32.toInt_toInt64, e]
  exact Int.bmod_eq_of_le (by omega) (by omega)
/-- marks and classes -/
def cj_M (mark : Nat → Int32) (c : Nat → Nat) : Prop := ∀ p, p < 13 → mark ((p + 1) % 13) = nI (c p) ∧ c p < 13
section
variable {g_made g_blocks g_edges g_paths g_many g_lastX g_lastY g_lastBlocks : Int32} {b_op b_number b_kind b_target b_from b_to b_exit b_weight b_firstEdge b_tree b_back b_row b_length b_gone b_done b_went b_cut b_kept b_mark b_way b_tried b_stack : Nat → Int32}
theorem cj_44 (x2 x3 : Int32) : ∀ r i b_mark, i + r = 13 → ∃ mk : Nat → Int32, (∀ j, j < 13 → mk j = if i ≤ j ∧ b_mark j = x3 then x2 else b_mark j) ∧
    ∀ post : SY → Prop, post (g_made, g_blocks, g_edges, g_paths, g_many, g_lastX, g_lastY, g_lastBlocks, b_op, b_number, b_kind, b_target, b_from, b_to, b_exit, b_weight, b_firstEdge, b_tree, b_back, b_row, b_length, b_gone, b_done, b_went, b_cut, b_kept, mk, b_way, b_tried, b_stack) → wY_join_44 post x2 x3 g_made g_blocks g_edges g_paths g_many g_lastX g_lastY g_lastBlocks (r + 1) (nI i) b_op b_number b_kind b_target b_from b_to b_exit b_weight b_firstEdge b_tree b_back b_row b_length b_gone b_done b_went b_cut b_kept b_mark b_way b_tried b_stack := by
  intro r
  induction r with
  | zero =>
    intro i b_mark hi
    refine ⟨b_mark, fun j hj => by rw [if_neg (by omega)], fun post hp => br_t (nI_le (a := 13) (by omega) (by omega)) hp⟩
  | succ r ih =>
    intro i b_mark hi
    by_cases h : b_mark i = x3
    · obtain ⟨mk, q1, q2⟩ := ih (i + 1) (upd b_mark i x2) (by omega)
      refine ⟨mk, fun j hj => ?_, fun post hp => br_f (nI_ge (b := 13) (by omega) (by omega)) ⟨vp_in_nI (by omega) (by omega), br_t (cd_rd rfl (by omega) h) ⟨vp_in_nI (by omega) (by omega), nm_r (cd_up rfl (by omega) rfl) (nm_r (nI_1 i) (q2 post hp))⟩⟩⟩
      rw [q1 j hj]
      by_cases e : j = i
      · subst e; rw [if_neg (by omega), pk_us, if_pos ⟨Nat.le_refl _, h⟩]
      · rw [pk_un e]
        by_cases h2 : i + 1 ≤ j ∧ b_mark j = x3
        · rw [if_pos h2, if_pos ⟨by omega, h2.2⟩]
        · rw [if_neg h2, if_neg (fun h3 => h2 ⟨by omega, h3.2⟩)]
    · obtain ⟨mk, q1, q2⟩ := ih (i + 1) b_mark (by omega)
      refine ⟨mk, fun j hj => ?_, fun post hp => br_f (nI_ge (b := 13) (by omega) (by omega)) ⟨vp_in_nI (by omega) (by omega), br_f (by rw [nI_clamp (by omega)]; exact h) (nm_r (nI_1 i) (q2 post hp))⟩⟩
      rw [q1 j hj]
      by_cases h2 : i + 1 ≤ j ∧ b_mark j = x3
      · rw [if_pos h2, if_pos ⟨by omega, h2.2⟩]
      · rw [if_neg h2, if_neg (fun h3 => h2 ⟨by
          have : j ≠ i := by intro e; subst e; exact h h3.2
          omega, h3.2⟩)]
theorem cj_join {e : Nat} {F T c : Nat → Nat} (he : e < 37) (hF : F e ≤ 12) (hT : T e ≤ 12) (hfr : b_from e = cd_cv (F e)) (hto : b_to e = cd_cv (T e)) (M : cj_M b_mark c) (h0 : b_tree e = 0) :
    ∃ mk tr : Nat → Int32, cj_M mk (ct_jc F T c e) ∧ tr e = nI (if c (F e) = c (T e) then 0 else 1) ∧ (∀ x, x ≠ e → tr x = b_tree x) ∧
      ∀ post : SY → Prop, post (g_made, g_blocks, g_edges, g_paths, g_many, g_lastX, g_lastY, g_lastBlocks, b_op, b_number, b_kind, b_target, b_from, b_to, b_exit, b_weight, b_firstEdge, tr, b_back, b_row, b_length, b_gone, b_done, b_went, b_cut, b_kept, mk, b_way, b_tried, b_stack) → wpY_join post (g_made, g_blocks, g_edges, g_paths, g_many, g_lastX, g_lastY, g_lastBlocks, b_op, b_number, b_kind, b_target, b_from, b_to, b_exit, b_weight, b_firstEdge, b_tree, b_back, b_row, b_length, b_gone, b_done, b_went, b_cut, b_kept, b_mark, b_way, b_tried, b_stack) (nI e) := by
  obtain ⟨m1, m2⟩ := M (F e) (by omega)
  obtain ⟨m3, m4⟩ := M (T e) (by omega)
  have eF : b_from (nI e).toNatClampNeg + 1 = nI ((F e + 1) % 13) := by rw [cd_rd rfl (by omega) hfr, cd_cv1 hF]
  have eT : b_to (nI e).toNatClampNeg + 1 = nI ((T e + 1) % 13) := by rw [cd_rd rfl (by omega) hto, cd_cv1 hT]
  by_cases h : c (F e) = c (T e)
  · refine ⟨b_mark, b_tree, fun p hp => ?_, by rw [if_pos h]; exact h0, fun _ _ => rfl, fun post hp => And.intro (vp_in_nI he (by omega)) ⟨pk_in ((F e + 1) % 13) 13 (by omega) (hx := eF), nm_r (cd_rd eF (by omega) m1) ⟨vp_in_nI he (by omega), pk_in ((T e + 1) % 13) 13 (by omega) (hx := eT), nm_r (cd_rd eT (by omega) m3) (br_t (congrArg nI h) hp)⟩⟩⟩
    have hj : ct_jc F T c e p = c p := by
      unfold ct_jc; split
      · rename_i h2; rw [h2, h]
      · rfl
    rw [hj]; exact M p hp
  · obtain ⟨mk, q1, q2⟩ := cj_44 (g_made := g_made) (g_blocks := g_blocks) (g_edges := g_edges) (g_paths := g_paths) (g_many := g_many) (g_lastX := g_lastX) (g_lastY := g_lastY) (g_lastBlocks := g_lastBlocks) (b_op := b_op) (b_number := b_number) (b_kind := b_kind) (b_target := b_target) (b_from := b_from) (b_to := b_to) (b_exit := b_exit) (b_weight := b_weight) (b_firstEdge := b_firstEdge) (b_back := b_back) (b_row := b_row) (b_length := b_length) (b_gone := b_gone) (b_done := b_done) (b_went := b_went) (b_cut := b_cut) (b_kept := b_kept) (b_way := b_way) (b_tried := b_tried) (b_stack := b_stack) (b_tree := upd b_tree e 1) (nI (c (F e))) (nI (c (T e))) 13 0 b_mark (by omega)
    refine ⟨mk, upd b_tree e 1, fun p hp => ?_, by rw [if_neg h, pk_us]; rfl, fun x hx => pk_un hx, fun post hp => And.intro (vp_in_nI he (by omega)) ⟨pk_in ((F e + 1) % 13) 13 (by omega) (hx := eF), nm_r (cd_rd eF (by omega) m1) ⟨vp_in_nI he (by omega), pk_in ((T e + 1) % 13) 13 (by omega) (hx := eT), nm_r (cd_rd eT (by omega) m3) (br_f (fun h2 => h (cd_im h2 (by omega) (by omega))) ⟨vp_in_nI he (by omega), nm_r (cd_up rfl (by omega) cd_z1) ⟨14, q2 post hp⟩⟩)⟩⟩⟩
    obtain ⟨p1, p2⟩ := M p hp
    rw [q1 _ (by omega), p1]
    unfold ct_jc
    by_cases h2 : c p = c (T e)
    · rw [if_pos ⟨by omega, by rw [h2]⟩, if_pos h2]; exact ⟨rfl, m2⟩
    · rw [if_neg (fun h3 => h2 (cd_im h3.2 (by omega) (by omega))), if_neg h2]; exact ⟨rfl, p2⟩
/-- the edges of one weight are joined, from e on -/
theorem cj_193 {nb : Nat} {ki fs F T : Nat → Nat} (G : cg_GR nb ki fs F T) (hE : g_edges = nI (fs nb + 1)) (hfr : ∀ e, e < fs nb + 1 → b_from e = cd_cv (F e)) (hto : ∀ e, e < fs nb + 1 → b_to e = cd_cv (T e)) (x2 : Int64) :
    ∀ r e c b_mark b_tree, e + r = fs nb → cj_M b_mark c → (∀ x, x < fs nb → (b_weight x).toInt = x2.toInt → e ≤ x → b_tree x = 0) →
      ∃ (l : List Nat) (mk tr : Nat → Int32), (∀ x, x ∈ l ↔ e ≤ x ∧ x < fs nb ∧ (b_weight x).toInt = x2.toInt) ∧ l.Pairwise (fun a b => a < b) ∧ cj_M mk (ct_cf F T l c) ∧ (∀ x, x ∈ l → tr x = nI (ct_tv F T l c x)) ∧ (∀ x, ¬ x ∈ l → tr x = b_tree x) ∧
        ∀ post J, J (nI 1) x2 g_made g_blocks g_edges g_paths g_many g_lastX g_lastY g_lastBlocks b_op b_number b_kind b_target b_from b_to b_exit b_weight b_firstEdge tr b_back b_row b_length b_gone b_done b_went b_cut b_kept mk b_way b_tried b_stack → wY_renew_193 post J (nI 1) x2 (r + 1) (nI e) g_made g_blocks g_edges g_paths g_many g_lastX g_lastY g_lastBlocks b_op b_number b_kind b_target b_from b_to b_exit b_weight b_firstEdge b_tree b_back b_row b_length b_gone b_done b_went b_cut b_kept b_mark b_way b_tried b_stack := by
  have hne := cg_ne G
  intro r
  induction r with
  | zero =>
    intro e c b_mark b_tree he M h0
    exact ⟨[], b_mark, b_tree, fun x => ⟨fun h => absurd h List.not_mem_nil, fun h => by omega⟩, List.Pairwise.nil, M, fun x h => absurd h List.not_mem_nil, fun _ _ => rfl, fun post J hp => br_t (by rw [hE, nI_pred]; exact nI_le (by omega) (by omega)) hp⟩
  | succ r ih =>
    intro e c b_mark b_tree he M h0
    by_cases hw : (b_weight e).toInt = x2.toInt
    · obtain ⟨hF, hT⟩ := cg_FT12 G (show e < fs nb + 1 by omega)
      obtain ⟨mk', tr', j1, j2, j3, j4⟩ := cj_join (g_made := g_made) (g_blocks := g_blocks) (g_edges := g_edges) (g_paths := g_paths) (g_many := g_many) (g_lastX := g_lastX) (g_lastY := g_lastY) (g_lastBlocks := g_lastBlocks) (b_op := b_op) (b_number := b_number) (b_kind := b_kind) (b_target := b_target) (b_from := b_from) (b_to := b_to) (b_exit := b_exit) (b_weight := b_weight) (b_firstEdge := b_firstEdge) (b_tree := b_tree) (b_back := b_back) (b_row := b_row) (b_length := b_length) (b_gone := b_gone) (b_done := b_done) (b_went := b_went) (b_cut := b_cut) (b_kept := b_kept) (b_mark := b_mark) (b_way := b_way) (b_tried := b_tried) (b_stack := b_stack) (e := e) (F := F) (T := T) (c := c) (by omega) hF hT (hfr e (by omega)) (hto e (by omega)) M (h0 e (by omega) hw (Nat.le_refl _))
      obtain ⟨l, mk, tr, q1, q2, q3, q4, q5, q6⟩ := ih (e + 1) (ct_jc F T c e) mk' tr' (by omega) j1 (fun x h1 h2 h3 => by rw [j3 x (by omega)]; exact h0 x h1 h2 (by omega))
      have hel : ¬ e ∈ l := fun h => by have := (q1 e).mp h; omega
      refine ⟨e :: l, mk, tr, fun x => ?_, List.pairwise_cons.mpr ⟨fun x hx => by have := (q1 x).mp hx; omega, q2⟩, q3, fun x hx => ?_, fun x hx => ?_, fun post J hp => ?_⟩
      · rw [List.mem_cons, q1]
        constructor
        · rintro (h | h)
          · subst h; exact ⟨Nat.le_refl _, by omega, hw⟩
          · exact ⟨by omega, h.2⟩
        · intro h
          by_cases ex : x = e
          · exact Or.inl ex
          · exact Or.inr ⟨by omega, h.2⟩
      · unfold ct_tv
        by_cases ex : e = x
        · subst ex; rw [if_pos rfl, q5 e hel, j2]
        · rw [if_neg ex]
          rcases List.mem_cons.mp hx with h | h
          · exact absurd h.symm ex
          · exact q4 x h
      · rw [q5 x (fun h => hx (List.mem_cons_of_mem _ h)), j3 x (by intro h; subst h; exact hx List.mem_cons_self)]
      · refine br_f (by rw [hE, nI_pred]; exact nI_ge (by omega) (by omega)) (br_f (by decide) ⟨vp_in_nI (by omega) (by omega), br_t ?_ (j4 _ (nm_r (nI_1 e) (q6 post J hp)))⟩)
        rw [nI_clamp (by omega)]; exact (cj_eq _ _).mpr hw
    · obtain ⟨l, mk, tr, q1, q2, q3, q4, q5, q6⟩ := ih (e + 1) c b_mark b_tree (by omega) M (fun x h1 h2 h3 => h0 x h1 h2 (by omega))
      refine ⟨l, mk, tr, fun x => ?_, q2, q3, q4, q5, fun post J hp => ?_⟩
      · rw [q1]
        constructor
        · intro h; exact ⟨by omega, h.2⟩
        · intro h
          refine ⟨?_, h.2⟩
          have : x ≠ e := by intro ex; subst ex; exact hw h.2.2
          omega
      · refine br_f (by rw [hE, nI_pred]; exact nI_ge (by omega) (by omega)) (br_f (by decide) ⟨vp_in_nI (by omega) (by omega), br_f ?_ (nm_r (nI_1 e) (q6 post J hp))⟩)
        rw [nI_clamp (by omega)]; exact fun h => hw ((cj_eq _ _).mp h)
/-- the greatest weight below x2 -/
theorem cj_124 {n : Nat} (hn : n < 37) (hE : g_edges = nI (n + 1)) (x2 : Int64) :
    ∀ r e f (x4 : Int64), e + r = n → f ≤ 1 → (f = 0 → ∀ x, x < e → x2.toInt ≤ (b_weight x).toInt) → (f = 1 → (∃ x, x < e ∧ (b_weight x).toInt = x4.toInt) ∧ x4.toInt < x2.toInt ∧ ∀ x, x < e → (b_weight x).toInt < x2.toInt → (b_weight x).toInt ≤ x4.toInt) →
      ∃ (f' : Nat) (y : Int64), f' ≤ 1 ∧ (f' = 0 → ∀ x, x < n → x2.toInt ≤ (b_weight x).toInt) ∧ (f' = 1 → (∃ x, x < n ∧ (b_weight x).toInt = y.toInt) ∧ y.toInt < x2.toInt ∧ ∀ x, x < n → (b_weight x).toInt < x2.toInt → (b_weight x).toInt ≤ y.toInt) ∧
        ∀ post J, (∃ n193 : Nat, wY_renew_193 post J (nI f') y n193 0 g_made g_blocks g_edges g_paths g_many g_lastX g_lastY g_lastBlocks b_op b_number b_kind b_target b_from b_to b_exit b_weight b_firstEdge b_tree b_back b_row b_length b_gone b_done b_went b_cut b_kept b_mark b_way b_tried b_stack) → wY_renew_124 post J x2 g_made g_blocks g_edges g_paths g_many g_lastX g_lastY g_lastBlocks b_op b_number b_kind b_target b_from b_to b_exit b_weight b_firstEdge b_tree b_back b_row b_length b_gone b_done b_went b_cut b_kept b_mark b_way b_tried b_stack (r + 1) (nI f) x4 (nI e) := by
  intro r
  induction r with
  | zero =>
    intro e f x4 he hf h0 h1
    have e1 : e = n := by omega
    subst e1
    exact ⟨f, x4, hf, h0, h1, fun post J hp => br_t (by rw [hE, nI_pred]; exact nI_le (by omega) (by omega)) hp⟩
  | succ r ih =>
    intro e f x4 he hf h0 h1
    by_cases hw : x2.toInt ≤ (b_weight e).toInt
    · obtain ⟨f', y, q1, q2, q3, q4⟩ := ih (e + 1) f x4 (by omega) hf (fun h x hx => by
          by_cases ex : x = e
          · subst ex; exact hw
          · exact h0 h x (by omega)) (fun h => by
          obtain ⟨⟨x, p1, p2⟩, p3, p4⟩ := h1 h
          refine ⟨⟨x, by omega, p2⟩, p3, fun z hz hz2 => ?_⟩
          have : z ≠ e := by intro ez; subst ez; omega
          exact p4 z (by omega) hz2)
      refine ⟨f', y, q1, q2, q3, fun post J hp => br_f (by rw [hE, nI_pred]; exact nI_ge (by omega) (by omega)) ⟨vp_in_nI (by omega) (by omega), br_t ?_ (nm_r (nI_1 e) (q4 post J hp))⟩⟩
      rw [nI_clamp (by omega)]; exact (cj_le _ _).mpr hw
    · have take : (f = 0 ∨ x4.toInt < (b_weight e).toInt) → _ := fun hc => ih (e + 1) 1 (b_weight e).toInt64 (by omega) (by omega) (fun h => by omega) (fun _ => by
          rw [Int32.toInt_toInt64]
          refine ⟨⟨e, by omega, rfl⟩, by omega, fun z hz hz2 => ?_⟩
          by_cases ez : z = e
          · subst ez; exact Int.le_refl _
          · rcases hc with h | h
            · have := h0 h z (by omega); omega
            · by_cases hf1 : f = 1
              · have := (h1 hf1).2.2 z (by omega) hz2; omega
              · have := h0 (by omega) z (by omega); omega)
      have hf01 : f = 0 ∨ f = 1 := by omega
      have hw' : ¬ x2 ≤ (b_weight (nI e).toNatClampNeg).toInt64 := by rw [nI_clamp (by omega)]; exact fun h => hw ((cj_le _ _).mp h)
      rcases hf01 with rfl | rfl
      · obtain ⟨f', y, q1, q2, q3, q4⟩ := take (Or.inl rfl)
        exact ⟨f', y, q1, q2, q3, fun post J hp => br_f (by rw [hE, nI_pred]; exact nI_ge (by omega) (by omega)) ⟨vp_in_nI (by omega) (by omega), br_f hw' (br_t rfl (And.intro (vp_in_nI (by omega) (by omega)) (nm_r (e' := (b_weight e).toInt64) (by rw [nI_clamp (by omega)]) (nm_r (nI_1 e) (q4 post J hp)))))⟩⟩
      · by_cases hx : x4.toInt < (b_weight e).toInt
        · obtain ⟨f', y, q1, q2, q3, q4⟩ := take (Or.inr hx)
          exact ⟨f', y, q1, q2, q3, fun post J hp => br_f (by rw [hE, nI_pred]; exact nI_ge (by omega) (by omega)) ⟨vp_in_nI (by omega) (by omega), br_f hw' (br_f (by decide) ⟨vp_in_nI (by omega) (by omega), br_t (by rw [nI_clamp (by omega)]; exact (cj_gt _ _).mpr hx) (And.intro (vp_in_nI (by omega) (by omega)) (nm_r (e' := (b_weight e).toInt64) (by rw [nI_clamp (by omega)]) (nm_r (nI_1 e) (q4 post J hp))))⟩)⟩⟩
        · obtain ⟨f', y, q1, q2, q3, q4⟩ := ih (e + 1) 1 x4 (by omega) hf (fun h => by omega) (fun h => by
            obtain ⟨⟨x, p1, p2⟩, p3, p4⟩ := h1 rfl
            refine ⟨⟨x, by omega, p2⟩, p3, fun z hz hz2 => ?_⟩
            by_cases ez : z = e
            · subst ez; omega
            · exact p4 z (by omega) hz2)
          exact ⟨f', y, q1, q2, q3, fun post J hp => br_f (by rw [hE, nI_pred]; exact nI_ge (by omega) (by omega)) ⟨vp_in_nI (by omega) (by omega), br_f hw' (br_f (by decide) ⟨vp_in_nI (by omega) (by omega), br_f (by rw [nI_clamp (by omega)]; exact fun h => hx ((cj_gt _ _).mp h)) (nm_r (nI_1 e) (q4 post J hp))⟩)⟩⟩
end
end
section
/-! renew as a whole -/
section
variable {g_made g_blocks g_edges g_paths g_many g_lastX g_lastY g_lastBlocks : Int32} {b_op b_number b_kind b_target b_from b_to b_exit b_weight b_firstEdge b_tree b_back b_row b_length b_gone b_done b_went b_cut b_kept b_mark b_way b_tried b_stack : Nat → Int32}
/-- weight by weight -/
theorem cj_110 {nb : Nat} {ki fs F T : Nat → Nat} (G : cg_GR nb ki fs F T) (hE : g_edges = nI (fs nb + 1)) (hfr : ∀ e, e < fs nb + 1 → b_from e = cd_cv (F e)) (hto : ∀ e, e < fs nb + 1 → b_to e = cd_cv (T e)) (h1ne : 1 ≤ fs nb) :
    ∀ N (x2 : Int64) (c : Nat → Nat) (b_mark b_tree : Nat → Int32), cs_n (fs nb) (fun e => if (b_weight e).toInt < x2.toInt then 1 else 0) < N → cj_M b_mark c → (∀ x, x < fs nb → (b_weight x).toInt < x2.toInt → b_tree x = 0) →
      ∃ (l : List Nat) (mk tr : Nat → Int32), (∀ x, x ∈ l ↔ x < fs nb ∧ (b_weight x).toInt < x2.toInt) ∧ l.Pairwise (ct_R (fun e => (b_weight e).toInt)) ∧ (∀ x, x ∈ l → tr x = nI (ct_tv F T l c x)) ∧ (∀ x, ¬ x ∈ l → tr x = b_tree x) ∧
        ∀ post : SY → Prop, wpY_empty (fun u => match u with | (g_made, g_blocks, g_edges, g_paths, g_many, g_lastX, g_lastY, g_lastBlocks, b_op, b_number, b_kind, b_target, b_from, b_to, b_exit, b_weight, b_firstEdge, b_tree, b_back, b_row, b_length, b_gone, b_done, b_went, b_cut, b_kept, b_mark, b_way, b_tried, b_stack) => (∀ k1 : Nat → Int32, k1 = upd b_kept 0 (vp_nar .boolean 0) → (∀ k2 : Nat → Int32, k2 = upd k1 1 (vp_nar .boolean 0) → post (g_made, g_blocks, g_edges, g_paths, g_many, g_lastX, g_lastY, g_lastBlocks, b_op, b_number, b_kind, b_target, b_from, b_to, b_exit, b_weight, b_firstEdge, b_tree, b_back, b_row, b_length, b_gone, b_done, b_went, b_cut, k2, b_mark, b_way, b_tried, b_stack)))) (g_made, g_blocks, g_edges, g_paths, g_many, g_lastX, g_lastY, g_lastBlocks, b_op, b_number, b_kind, b_target, b_from, b_to, b_exit, b_weight, b_firstEdge, tr, b_back, b_row, b_length, b_gone, b_done, b_went, b_cut, b_kept, mk, b_way, b_tried, b_stack) → ∃ n, wY_renew_110 post n (nI 1) x2 g_made g_blocks g_edges g_paths g_many g_lastX g_lastY g_lastBlocks b_op b_number b_kind b_target b_from b_to b_exit b_weight b_firstEdge b_tree b_back b_row b_length b_gone b_done b_went b_cut b_kept b_mark b_way b_tried b_stack := by
  have hne := cg_ne G
  intro N
  induction N with
  | zero => intro x2 c mk tr h; omega
  | succ N ih =>
    intro x2 c b_mark b_tree hN M h0
    obtain ⟨f', y, q1, q2, q3, q4⟩ := cj_124 (g_made := g_made) (g_blocks := g_blocks) (g_edges := g_edges) (g_paths := g_paths) (g_many := g_many) (g_lastX := g_lastX) (g_lastY := g_lastY) (g_lastBlocks := g_lastBlocks) (b_op := b_op) (b_number := b_number) (b_kind := b_kind) (b_target := b_target) (b_from := b_from) (b_to := b_to) (b_exit := b_exit) (b_weight := b_weight) (b_firstEdge := b_firstEdge) (b_tree := b_tree) (b_back := b_back) (b_row := b_row) (b_length := b_length) (b_gone := b_gone) (b_done := b_done) (b_went := b_went) (b_cut := b_cut) (b_kept := b_kept) (b_mark := b_mark) (b_way := b_way) (b_tried := b_tried) (b_stack := b_stack) (n := fs nb) hne hE x2 (fs nb) 0 0 (-3000000000) (by omega) (by omega) (fun _ x hx => by omega) (fun h => by omega)
    have hf01 : f' = 0 ∨ f' = 1 := by omega
    rcases hf01 with rfl | rfl
    · have hall := q2 rfl
      refine ⟨[], b_mark, b_tree, fun x => ⟨fun h => absurd h List.not_mem_nil, fun h => ?_⟩, List.Pairwise.nil, fun x h => absurd h List.not_mem_nil, fun _ _ => rfl, fun post hp => ⟨2, br_f (by decide) ⟨_, q4 post _ ⟨1, br_f (by rw [hE, nI_pred]; exact nI_ge (b := fs nb) (a := 0) (by omega) (by omega)) (br_t rfl (br_t rfl hp))⟩⟩⟩⟩
      have := hall x h.1
      omega
    · obtain ⟨⟨x0, hx0, hwx0⟩, hy2, hmax⟩ := q3 rfl
      obtain ⟨l1, mk1, tr1, a1, a2, a3, a4, a5, a6⟩ := cj_193 (g_made := g_made) (g_blocks := g_blocks) (g_edges := g_edges) (g_paths := g_paths) (g_many := g_many) (g_lastX := g_lastX) (g_lastY := g_lastY) (g_lastBlocks := g_lastBlocks) (b_op := b_op) (b_number := b_number) (b_kind := b_kind) (b_target := b_target) (b_from := b_from) (b_to := b_to) (b_exit := b_exit) (b_weight := b_weight) (b_firstEdge := b_firstEdge) (b_back := b_back) (b_row := b_row) (b_length := b_length) (b_gone := b_gone) (b_done := b_done) (b_went := b_went) (b_cut := b_cut) (b_kept := b_kept) (b_way := b_way) (b_tried := b_tried) (b_stack := b_stack) G hE hfr hto y (fs nb) 0 c b_mark b_tree (by omega) M (fun x hx hw _ => h0 x hx (by omega))
      have hcnt : cs_n (fs nb) (fun e => if (b_weight e).toInt < y.toInt then 1 else 0) < cs_n (fs nb) (fun e => if (b_weight e).toInt < x2.toInt then 1 else 0) := by
        have hle : ∀ n, n ≤ fs nb → cs_n n (fun e => if (b_weight e).toInt < y.toInt then 1 else 0) + (if x0 < n then 1 else 0) ≤ cs_n n (fun e => if (b_weight e).toInt < x2.toInt then 1 else 0) := by
          intro n
          induction n with
          | zero => intro _; rw [if_neg (by omega)]; exact Nat.le_refl _
          | succ n ihn =>
            intro hn
            have h1 := ihn (by omega)
            simp only [cs_n]
            by_cases e1 : (b_weight n).toInt < y.toInt
            · rw [if_pos e1, if_pos (show (b_weight n).toInt < x2.toInt by omega)]
              have : x0 ≠ n := by intro e; subst e; omega
              by_cases e2 : x0 < n
              · rw [if_pos e2] at h1; rw [if_pos (by omega)]; omega
              · rw [if_neg e2] at h1; rw [if_neg (by omega)]; omega
            · rw [if_neg e1]
              by_cases e3 : x0 = n
              · subst e3
                rw [if_neg (by omega)] at h1
                rw [if_pos (by omega), if_pos (show (b_weight x0).toInt < x2.toInt by omega)]; omega
              · by_cases e2 : x0 < n
                · rw [if_pos e2] at h1; rw [if_pos (by omega)]; split <;> omega
                · rw [if_neg e2] at h1; rw [if_neg (by omega)]; split <;> omega
        have := hle (fs nb) (Nat.le_refl _)
        rw [if_pos hx0] at this
        omega
      obtain ⟨l2, mk, tr, b1, b2, b3, b4, b5⟩ := ih y (ct_cf F T l1 c) mk1 tr1 (by omega) a3 (fun x hx hw => by
        rw [a5 x (fun h => by have := (a1 x).mp h; omega)]
        exact h0 x hx (by omega))
      have hdis : ∀ x, x ∈ l1 → ¬ x ∈ l2 := fun x h1 h2 => by
        have := (a1 x).mp h1
        have := (b1 x).mp h2
        omega
      refine ⟨l1 ++ l2, mk, tr, fun x => ?_, ?_, fun x hx => ?_, fun x hx => ?_, fun post hp => ?_⟩
      · rw [List.mem_append, a1, b1]
        constructor
        · rintro (h | h)
          · exact ⟨h.2.1, by omega⟩
          · exact ⟨h.1, by omega⟩
        · intro h
          have := hmax x h.1 h.2
          by_cases e : (b_weight x).toInt = y.toInt
          · exact Or.inl ⟨by omega, h.1, e⟩
          · exact Or.inr ⟨h.1, by omega⟩
      · refine List.pairwise_append.mpr ⟨?_, b2, fun a ha b hb => ?_⟩
        · have a2' : l1.Pairwise (fun a b => a < b ∧ (b_weight a).toInt = y.toInt ∧ (b_weight b).toInt = y.toInt) := by
            refine List.Pairwise.imp_of_mem ?_ a2
            intro a b ha hb hab
            exact ⟨hab, ((a1 a).mp ha).2.2, ((a1 b).mp hb).2.2⟩
          refine List.Pairwise.imp ?_ a2'
          intro a b h
          show (b_weight b).toInt < (b_weight a).toInt ∨ ((b_weight a).toInt = (b_weight b).toInt ∧ a < b); omega
        · have := (a1 a).mp ha
          have := (b1 b).mp hb
          show (b_weight b).toInt < (b_weight a).toInt ∨ ((b_weight a).toInt = (b_weight b).toInt ∧ a < b); omega
      · by_cases h1 : x ∈ l1
        · rw [ct_tvb F T l1 l2 c x h1, b4 x (hdis x h1), a4 x h1]
        · rw [ct_tva F T l1 l2 c x h1]
          rcases List.mem_append.mp hx with h | h
          · exact absurd h h1
          · exact b3 x h
      · rw [b4 x (fun h => hx (List.mem_append_right _ h)), a5 x (fun h => hx (List.mem_append_left _ h))]
      · obtain ⟨n, hn⟩ := b5 post hp
        exact ⟨n + 1, br_f (by decide) ⟨_, q4 post _ ⟨_, a6 post _ hn⟩⟩⟩
/-- a number above all weights -/
theorem cj_69 {n : Nat} (hn : n < 37) (hE : g_edges = nI (n + 1)) : ∀ r e (x2 : Int64), e + r = n → (∀ x, x < e → (b_weight x).toInt < x2.toInt) →
    ∃ y : Int64, (∀ x, x < n → (b_weight x).toInt < y.toInt) ∧ ∀ post : SY → Prop, (∃ n110 : Nat, wY_renew_110 post n110 1 y g_made g_blocks g_edges g_paths g_many g_lastX g_lastY g_lastBlocks b_op b_number b_kind b_target b_from b_to b_exit b_weight b_firstEdge b_tree b_back b_row b_length b_gone b_done b_went b_cut b_kept b_mark b_way b_tried b_stack) → wY_renew_69 post 1 g_made g_blocks g_edges g_paths g_many g_lastX g_lastY g_lastBlocks b_op b_number b_kind b_target b_from b_to b_exit b_weight b_firstEdge b_tree b_back b_row b_length b_gone b_done b_went b_cut b_kept b_mark b_way b_tried b_stack (r + 1) x2 (nI e) := by
  intro r
  induction r with
  | zero =>
    intro e x2 he hI
    have e1 : e = n := by omega
    subst e1
    exact ⟨x2, hI, fun post hp => br_t (by rw [hE, nI_pred]; exact nI_le (by omega) (by omega)) hp⟩
  | succ r ih =>
    intro e x2 he hI
    by_cases hw : (b_weight e).toInt < x2.toInt
    · obtain ⟨y, q1, q2⟩ := ih (e + 1) x2 (by omega) (fun x hx => by
        by_cases ex : x = e
        · subst ex; exact hw
        · exact hI x (by omega))
      exact ⟨y, q1, fun post hp => br_f (by rw [hE, nI_pred]; exact nI_ge (by omega) (by omega)) ⟨vp_in_nI (by omega) (by omega), br_t (by rw [nI_clamp (by omega)]; exact (cj_lt _ _).mpr hw) (nm_r (nI_1 e) (q2 post hp))⟩⟩
    · obtain ⟨y, q1, q2⟩ := ih (e + 1) ((b_weight e).toInt64 + 1) (by omega) (fun x hx => by
        rw [cj_a1]
        by_cases ex : x = e
        · subst ex; omega
        · have := hI x (by omega); omega)
      exact ⟨y, q1, fun post hp => br_f (by rw [hE, nI_pred]; exact nI_ge (by omega) (by omega)) ⟨vp_in_nI (by omega) (by omega), br_f (by rw [nI_clamp (by omega)]; exact fun h => hw ((cj_lt _ _).mp h)) ⟨vp_in_nI (by omega) (by omega), nm_r (e' := (b_weight e).toInt64 + 1) (by rw [nI_clamp (by omega)]) (nm_r (nI_1 e) (q2 post hp))⟩⟩⟩
theorem cj_renew {nb : Nat} {ki fs F T : Nat → Nat} (G : cg_GR nb ki fs F T) (hE : g_edges = nI (fs nb + 1)) (hfr : ∀ e, e < fs nb + 1 → b_from e = cd_cv (F e)) (hto : ∀ e, e < fs nb + 1 → b_to e = cd_cv (T e)) :
    ∃ (l : List Nat) (mk tr h c w : Nat → Int32), l.Pairwise (ct_R (fun e => (b_weight e).toInt)) ∧ (∀ e, e ∈ l ↔ e < fs nb) ∧ (∀ x, x < fs nb + 1 → tr x = nI (cl_tr nb fs F T l x)) ∧
      ((∀ i, i < 37 → h i = 0) ∧ (∀ i, 37 ≤ i → h i = b_gone i) ∧ (∀ i, i < 12 → c i = 0) ∧ (∀ i, 12 ≤ i → c i = b_done i) ∧ (∀ i, i < 300 → w i = 0) ∧ (∀ i, 300 ≤ i → w i = b_went i)) ∧
      ∀ post : SY → Prop, post (g_made, g_blocks, g_edges, g_paths, g_many, g_lastX, g_lastY, g_lastBlocks, b_op, b_number, b_kind, b_target, b_from, b_to, b_exit, b_weight, b_firstEdge, tr, b_back, b_row, b_length, h, c, w, upd b_cut 0 0, upd (upd b_kept 0 0) 1 0, mk, b_way, b_tried, b_stack) → wpY_renew post (g_made, g_blocks, g_edges, g_paths, g_many, g_lastX, g_lastY, g_lastBlocks, b_op, b_number, b_kind, b_target, b_from, b_to, b_exit, b_weight, b_firstEdge, b_tree, b_back, b_row, b_length, b_gone, b_done, b_went, b_cut, b_kept, b_mark, b_way, b_tried, b_stack) := by
  have hnb := G.2.1
  have hnb1 := G.1
  have hne := cg_ne G
  have h1ne : 1 ≤ fs nb := by
    have h1 := cg_mono G (a := 1) nb (by omega) (Nat.le_refl _)
    have h2 : fs 1 = fs 0 + cg_ex (ki 0) := (G.2.2.2.1 0 (by omega)).2
    have h3 := (cg_ex1 (ki 0)).1
    omega
  obtain ⟨hz1, hz2⟩ := cw_fs (t := fun j => j) (v := fun _ j => nI j) (N := 13) (fun i j _ _ h => h) (fun _ _ _ _ _ _ _ => rfl) 13 0 b_mark (by omega)
  generalize hM0 : cw_f (fun j => j) (fun _ j => nI j) 13 0 b_mark = M0 at hz1 hz2
  have hz3 := cw_f0 0 (fs nb + 1) b_tree
  generalize hT0 : cw_f (fun j => j) (fun _ _ => 0) (fs nb + 1) 0 b_tree = T0 at hz3
  obtain ⟨hF, hT⟩ := cg_FT12 G (show fs nb < fs nb + 1 by omega)
  have M : cj_M M0 cl_c0 := fun p hp => by
    have h13 : (p + 1) % 13 < 13 := Nat.mod_lt _ (by omega)
    exact ⟨hz1 _ h13 (by omega), h13⟩
  obtain ⟨mk', tr', j1, j2, j3, j4⟩ := cj_join (g_made := g_made) (g_blocks := g_blocks) (g_edges := g_edges) (g_paths := g_paths) (g_many := g_many) (g_lastX := g_lastX) (g_lastY := g_lastY) (g_lastBlocks := g_lastBlocks) (b_op := b_op) (b_number := b_number) (b_kind := b_kind) (b_target := b_target) (b_from := b_from) (b_to := b_to) (b_exit := b_exit) (b_weight := b_weight) (b_firstEdge := b_firstEdge) (b_back := b_back) (b_row := b_row) (b_length := b_length) (b_gone := b_gone) (b_done := b_done) (b_went := b_went) (b_cut := b_cut) (b_kept := b_kept) (b_way := b_way) (b_tried := b_tried) (b_stack := b_stack) (b_mark := M0) (b_tree := T0) (e := fs nb) (F := F) (T := T) (c := cl_c0) (by omega) hF hT (hfr _ (by omega)) (hto _ (by omega)) M (hz3.1 _ (by omega))
  obtain ⟨y, y1, y2⟩ := cj_69 (g_made := g_made) (g_blocks := g_blocks) (g_edges := g_edges) (g_paths := g_paths) (g_many := g_many) (g_lastX := g_lastX) (g_lastY := g_lastY) (g_lastBlocks := g_lastBlocks) (b_op := b_op) (b_number := b_number) (b_kind := b_kind) (b_target := b_target) (b_from := b_from) (b_to := b_to) (b_exit := b_exit) (b_weight := b_weight) (b_firstEdge := b_firstEdge) (b_back := b_back) (b_row := b_row) (b_length := b_length) (b_gone := b_gone) (b_done := b_done) (b_went := b_went) (b_cut := b_cut) (b_kept := b_kept) (b_way := b_way) (b_tried := b_tried) (b_stack := b_stack) (b_mark := mk') (b_tree := tr') (n := fs nb) hne hE (fs nb) 0 ((b_weight 0).toInt64 + 1) (by omega) (fun x hx => by omega)
  obtain ⟨l, mk, tr, a1, a2, a3, a4, a5⟩ := cj_110 (g_made := g_made) (g_blocks := g_blocks) (g_edges := g_edges) (g_paths := g_paths) (g_many := g_many) (g_lastX := g_lastX) (g_lastY := g_lastY) (g_lastBlocks := g_lastBlocks) (b_op := b_op) (b_number := b_number) (b_kind := b_kind) (b_target := b_target) (b_from := b_from) (b_to := b_to) (b_exit := b_exit) (b_weight := b_weight) (b_firstEdge := b_firstEdge) (b_back := b_back) (b_row := b_row) (b_length := b_length) (b_gone := b_gone) (b_done := b_done) (b_went := b_went) (b_cut := b_cut) (b_kept := b_kept) (b_way := b_way) (b_tried := b_tried) (b_stack := b_stack) G hE hfr hto h1ne (cs_n (fs nb) (fun e => if (b_weight e).toInt < y.toInt then 1 else 0) + 1) y (ct_jc F T cl_c0 (fs nb)) mk' tr' (by omega) j1 (fun x hx _ => by rw [j3 x (by omega)]; exact hz3.1 x (by omega))
  obtain ⟨h, c, w, z1, z2, z3, z4, z5, z6, z7⟩ := cw_empty (g_made := g_made) (g_blocks := g_blocks) (g_edges := g_edges) (g_paths := g_paths) (g_many := g_many) (g_lastX := g_lastX) (g_lastY := g_lastY) (g_lastBlocks := g_lastBlocks) (b_op := b_op) (b_number := b_number) (b_kind := b_kind) (b_target := b_target) (b_from := b_from) (b_to := b_to) (b_exit := b_exit) (b_weight := b_weight) (b_firstEdge := b_firstEdge) (b_back := b_back) (b_row := b_row) (b_length := b_length) (b_gone := b_gone) (b_done := b_done) (b_went := b_went) (b_cut := b_cut) (b_kept := b_kept) (b_way := b_way) (b_tried := b_tried) (b_stack := b_stack) (b_mark := mk) (b_tree := tr)
  have hmem : ∀ e, e ∈ l ↔ e < fs nb := fun e => by rw [a1]; exact ⟨fun h => h.1, fun h => ⟨h, y1 e h⟩⟩
  refine ⟨l, mk, tr, h, c, w, a2, hmem, fun x hx => ?_, ⟨z1, z2, z3, z4, z5, z6⟩, fun post hp => ?_⟩
  · unfold cl_tr ct_tv
    by_cases e : fs nb = x
    · rw [if_pos e, ← e, a4 _ (fun h => by have := (hmem _).mp h; omega), j2]
    · rw [if_neg e]; exact a3 x ((hmem x).mpr (by omega))
  · have hfin := y2 post (a5 post (z7 _ (nm_r (congrArg (upd b_kept 0) cd_z0) (nm_r (congrArg (upd (upd b_kept 0 0) 1) cd_z0) hp))))
    refine Exists.intro 14 (cw_fl (W := fun n x a => wY_renew_2 post g_made g_blocks g_edges g_paths g_many g_lastX g_lastY g_lastBlocks n x b_op b_number b_kind b_target b_from b_to b_exit b_weight b_firstEdge b_tree b_back b_row b_length b_gone b_done b_went b_cut b_kept a b_way b_tried b_stack) (Q := fun a => ∃ n23 : Nat, wY_renew_23 post g_made g_blocks g_edges g_paths g_many g_lastX g_lastY g_lastBlocks n23 0 b_op b_number b_kind b_target b_from b_to b_exit b_weight b_firstEdge b_tree b_back b_row b_length b_gone b_done b_went b_cut b_kept a b_way b_tried b_stack) (fun j => j) (fun _ j => nI j) 13 ?_ ?_ 13 0 b_mark (by omega) ?_)
    · intro n a hQ; exact br_t (nI_le (a := 13) (Nat.le_refl _) (by omega)) hQ
    · intro n j a hj h; exact br_f (nI_ge (b := 13) hj (by omega)) ⟨vp_in_nI (by omega) (by omega), nm_r (cd_up rfl (by omega) rfl) (nm_r (nI_1 j) h)⟩
    rw [hM0]
    refine Exists.intro (fs nb + 1 + 1) (cw_fl (W := fun n x a => wY_renew_23 post g_made g_blocks g_edges g_paths g_many g_lastX g_lastY g_lastBlocks n x b_op b_number b_kind b_target b_from b_to b_exit b_weight b_firstEdge a b_back b_row b_length b_gone b_done b_went b_cut b_kept M0 b_way b_tried b_stack) (Q := fun a => wpY_join (fun u => match u with | (g_made, g_blocks, g_edges, g_paths, g_many, g_lastX, g_lastY, g_lastBlocks, b_op, b_number, b_kind, b_target, b_from, b_to, b_exit, b_weight, b_firstEdge, b_tree, b_back, b_row, b_length, b_gone, b_done, b_went, b_cut, b_kept, b_mark, b_way, b_tried, b_stack) => (∀ x2 : Int64, x2 = (b_weight 0).toInt64 + 1 → (∃ n69 : Nat, wY_renew_69 post 1 g_made g_blocks g_edges g_paths g_many g_lastX g_lastY g_lastBlocks b_op b_number b_kind b_target b_from b_to b_exit b_weight b_firstEdge b_tree b_back b_row b_length b_gone b_done b_went b_cut b_kept b_mark b_way b_tried b_stack n69 x2 0))) (g_made, g_blocks, g_edges, g_paths, g_many, g_lastX, g_lastY, g_lastBlocks, b_op, b_number, b_kind, b_target, b_from, b_to, b_exit, b_weight, b_firstEdge, a, b_back, b_row, b_length, b_gone, b_done, b_went, b_cut, b_kept, M0, b_way, b_tried, b_stack) (nI (fs nb))) (fun j => j) (fun _ _ => 0) (fs nb + 1) ?_ ?_ (fs nb + 1) 0 b_tree (by omega) ?_)
    · intro n a hQ
      refine br_t (by rw [hE]; exact nI_le (Nat.le_refl _) (by omega)) ?_
      rw [show g_edges - 1 = nI (fs nb) from by rw [hE, nI_pred]]
      exact hQ
    · intro n j a hj h; exact br_f (by rw [hE]; exact nI_ge hj (by omega)) ⟨vp_in_nI (by omega) (by omega), nm_r (cd_up rfl (by omega) cd_z0) (nm_r (nI_1 j) h)⟩
    rw [hT0]
    exact j4 _ (nm_e ⟨_, hfin⟩)
end
end
section
/-! plant and renew: one tree, all counters 0 -/
theorem cl_S0 {nb : Nat} {ki fs F T bk tr : Nat → Nat} {hits cuts gone runs bg bd bw bc : Nat → Int32} : cr_S nb ki fs F T bk tr 0 hits cuts gone runs bg bd bw bc ↔ cf_CS nb ki fs F T bk tr hits cuts gone (runs 0) bg bd bw (bc 0) := by
  unfold cr_S; simp only [Nat.mul_zero, Nat.zero_add]
theorem cl_T {nb : Nat} {ki fs F T : Nat → Nat} (G : cg_GR nb ki fs F T) {l : List Nat} (hl : l.Nodup) (hm : ∀ e, e ∈ l ↔ e < fs nb) {inT pr bt : Nat → Int32} (h1 : ∀ x, x < fs nb + 1 → inT x = nI (cl_tr nb fs F T l x)) (h2 : ∀ x, x < fs nb + 1 → bt x = nI (cl_tr nb fs F T l x))
    (h3 : ∀ x, x < fs nb + 1 → cl_tr nb fs F T l x = 0 → pr (cr_nt (cl_tr nb fs F T l) x) = nI x) : cr_T (fs nb + 1) F T (cl_tr nb fs F T l) (nI (cr_nt (cl_tr nb fs F T l) (fs nb + 1))) inT pr bt := by
  have hmem : ∀ x, x ∈ fs nb :: l ↔ x < fs nb + 1 := by
    intro x
    rw [List.mem_cons, hm]; omega
  have hnod : (fs nb :: l).Nodup := List.nodup_cons.mpr ⟨fun h => by have := (hm _).mp h; omega, hl⟩
  refine ⟨fun e he => ⟨ct_tv01 F T _ _ e, h1 e he, h2 e he, fun h => ct_two _ _ e h⟩, fun U hU hex => ?_, rfl, h3, ?_⟩
  · obtain ⟨e, he, hu⟩ := hex
    obtain ⟨p, a, q1, q2, q3, q4⟩ := ct_leaf (F := F) (T := T) (U := U) (c := cl_c0) hnod (fun x hx hux => hU x ((hmem x).mp hx) hux) ((hmem e).mpr he) hu
    exact ⟨p, a, (hmem a).mp q1, q2, q3, fun x hx => q4 x ((hmem x).mpr hx)⟩
  · show cl_tr nb fs F T l (fs nb) = 1
    unfold cl_tr ct_tv
    rw [if_pos rfl, G.2.2.2.2.2.1, G.2.2.2.2.2.2]
    rfl
section
variable {f_drafted f_blocks f_edges f_probed f_paths f_fresh f_x f_y f_steps : Int32} {a_op a_with a_kind a_target a_from a_to a_exit a_weights a_inTree a_back a_first a_probes a_joined a_order a_ahead a_met a_way a_ways a_adds a_begins a_hits a_cuts a_gone a_runs a_version a_counts a_known : Nat → Int32} {g_made g_blocks g_edges g_paths g_many g_lastX g_lastY g_lastBlocks : Int32} {b_op b_number b_kind b_target b_from b_to b_exit b_weight b_firstEdge b_tree b_back b_row b_length b_gone b_done b_went b_cut b_kept b_mark b_way b_tried b_stack : Nat → Int32}
theorem cl_fin {k : Nat} {nb : Nat} {ki fs F T bk m rk : Nat → Nat} (hD : ∃ dr, f_drafted = nI dr ∧ g_made = nI dr ∧ cr_D dr a_op a_kind a_target b_target) (hop : a_op = b_op ∧ a_with = b_number ∧ a_kind = b_kind) (hxy : f_x = g_lastX ∧ f_y = g_lastY ∧ f_steps = g_lastBlocks) (hk : k + 6 ≤ 3072) (hV : cr_V k a_version)
    (hEE : cr_E nb ki fs F T f_blocks f_edges g_blocks g_edges a_kind a_from a_to a_exit a_first b_from b_to b_exit b_firstEdge) (hK : cr_K (fs nb + 1) bk a_back b_back) (hDF : cg_DF nb ki fs T m bk rk) (hPX : cr_PX nb ki fs T m bk f_paths a_adds a_begins) (hPY : cr_PY (cp_LL nb ki fs T bk nb) g_paths g_many b_row b_length)
    (hw : ∀ e, e < fs nb + 1 → a_weights e = b_weight e) :
    ∃ (fPr : Int32) (jn ord inT pr h c w mk bt h' c' w' : Nat → Int32),
      i_Rel (k + 6) (f_drafted, f_blocks, f_edges, fPr, f_paths, 0, f_x, f_y, f_steps, a_op, a_with, a_kind, a_target, a_from, a_to, a_exit, a_weights, inT, a_back, a_first, pr, jn, ord, a_ahead, a_met, a_way, a_ways, a_adds, a_begins, h, c, w, upd a_runs 0 0, upd a_version 0 (a_version 0 + 1), a_counts, a_known) (g_made, g_blocks, g_edges, g_paths, g_many, g_lastX, g_lastY, g_lastBlocks, b_op, b_number, b_kind, b_target, b_from, b_to, b_exit, b_weight, b_firstEdge, bt, b_back, b_row, b_length, h', c', w', upd b_cut 0 0, upd (upd b_kept 0 0) 1 0, mk, b_way, b_tried, b_stack) ∧
      (∀ post : SX → Prop, post (f_drafted, f_blocks, f_edges, fPr, f_paths, 0, f_x, f_y, f_steps, a_op, a_with, a_kind, a_target, a_from, a_to, a_exit, a_weights, inT, a_back, a_first, pr, jn, ord, a_ahead, a_met, a_way, a_ways, a_adds, a_begins, h, c, w, upd a_runs 0 0, upd a_version 0 (a_version 0 + 1), a_counts, a_known) → wpX_plant post (f_drafted, f_blocks, f_edges, f_probed, f_paths, f_fresh, f_x, f_y, f_steps, a_op, a_with, a_kind, a_target, a_from, a_to, a_exit, a_weights, a_inTree, a_back, a_first, a_probes, a_joined, a_order, a_ahead, a_met, a_way, a_ways, a_adds, a_begins, a_hits, a_cuts, a_gone, a_runs, a_version, a_counts, a_known)) ∧
      (∀ post : SY → Prop, post (g_made, g_blocks, g_edges, g_paths, g_many, g_lastX, g_lastY, g_lastBlocks, b_op, b_number, b_kind, b_target, b_from, b_to, b_exit, b_weight, b_firstEdge, bt, b_back, b_row, b_length, h', c', w', upd b_cut 0 0, upd (upd b_kept 0 0) 1 0, mk, b_way, b_tried, b_stack) → wpY_renew post (g_made, g_blocks, g_edges, g_paths, g_many, g_lastX, g_lastY, g_lastBlocks, b_op, b_number, b_kind, b_target, b_from, b_to, b_exit, b_weight, b_firstEdge, b_tree, b_back, b_row, b_length, b_gone, b_done, b_went, b_cut, b_kept, b_mark, b_way, b_tried, b_stack)) := by
  obtain ⟨G, ⟨e1, e2, e3, e4⟩, e5, e6, e7, e8⟩ := hEE
  have hnb := G.2.1
  have hne := cg_ne G
  obtain ⟨l, jn, ord, inT, pr, h, c, w, x1, x2, x3, x4, ⟨z1, z2, z3, z4, z5, z6⟩, x6⟩ := cl_plant (f_drafted := f_drafted) (f_blocks := f_blocks) (f_edges := f_edges) (f_probed := f_probed) (f_paths := f_paths) (f_fresh := f_fresh) (f_x := f_x) (f_y := f_y) (f_steps := f_steps) (a_op := a_op) (a_with := a_with) (a_kind := a_kind) (a_target := a_target) (a_from := a_from) (a_to := a_to) (a_exit := a_exit) (a_weights := a_weights) (a_inTree := a_inTree) (a_back := a_back) (a_first := a_first) (a_probes := a_probes) (a_joined := a_joined) (a_order := a_order) (a_ahead := a_ahead) (a_met := a_met) (a_way := a_way) (a_ways := a_ways) (a_adds := a_adds) (a_begins := a_begins) (a_hits := a_hits) (a_cuts := a_cuts) (a_gone := a_gone) (a_runs := a_runs) (a_version := a_version) (a_counts := a_counts) (a_known := a_known) G e3 (fun e he => (e6 e he).1) (fun e he => (e6 e he).2.2.1)
  obtain ⟨l', mk, bt, h', c', w', y1, y2, y3, ⟨u1, u2, u3, u4, u5, u6⟩, y6⟩ := cj_renew (g_made := g_made) (g_blocks := g_blocks) (g_edges := g_edges) (g_paths := g_paths) (g_many := g_many) (g_lastX := g_lastX) (g_lastY := g_lastY) (g_lastBlocks := g_lastBlocks) (b_op := b_op) (b_number := b_number) (b_kind := b_kind) (b_target := b_target) (b_from := b_from) (b_to := b_to) (b_exit := b_exit) (b_weight := b_weight) (b_firstEdge := b_firstEdge) (b_tree := b_tree) (b_back := b_back) (b_row := b_row) (b_length := b_length) (b_gone := b_gone) (b_done := b_done) (b_went := b_went) (b_cut := b_cut) (b_kept := b_kept) (b_mark := b_mark) (b_way := b_way) (b_tried := b_tried) (b_stack := b_stack) G e4 (fun e he => (e6 e he).2.1) (fun e he => (e6 e he).2.2.2.1)
  have hll : l = l' := by
    refine ct_sort (ct_Ra (fun e => (a_weights e).toInt)) l l' x1 ?_ (fun e => by rw [x2, y2])
    refine List.Pairwise.imp_of_mem ?_ y1
    intro a b ha hb hab
    have h1 := hw a (by have := (y2 a).mp ha; omega)
    have h2 := hw b (by have := (y2 b).mp hb; omega)
    show (a_weights b).toInt < (a_weights a).toInt ∨ ((a_weights a).toInt = (a_weights b).toInt ∧ a < b)
    rw [h1, h2]; exact hab
  subst hll
  refine ⟨_, jn, ord, inT, pr, h, c, w, mk, bt, h', c', w', ?_, x6, y6⟩
  obtain ⟨vv, v1, v2⟩ := hV
  have hver : ∀ i, i < 3 → upd a_version 0 (a_version 0 + 1) i = nI (cs_u vv 0 (vv 0 + 1) i) := fun i hi => cd_pu (by rw [(v2 0 (by omega)).1, nI_1]) (fun _ => (v2 i hi).1)
  refine ⟨hD, hop, hxy, ⟨cs_u vv 0 (vv 0 + 1), by rw [cs_us]; omega, fun i hi => ⟨hver i hi, ?_⟩⟩, Or.inr ⟨nb, ki, fs, F, T, bk, m, rk, cl_tr nb fs F T l, ⟨G, ⟨e1, e2, e3, e4⟩, e5, e6, e7, e8⟩, hK, hDF, hPX, hPY, hw, cl_T G (ct_Rn x1) x2 x3 y3 x4, ?_, fun d hd => Or.inl ⟨?_, ?_⟩, Or.inl rfl⟩⟩
  · rw [cs_us]
    by_cases e : i = 0
    · rw [e, cs_us]; exact Nat.le_refl _
    · rw [cs_un e]; have := (v2 i hi).2; omega
  · exact cl_S0.mpr (cf_CS0 hne hnb z1 z3 z5 pk_us u1 u3 u5 pk_us)
  · have hd' : d = 0 ∨ d = 1 := by omega
    rcases hd' with rfl | rfl
    · rw [pk_un (by omega), pk_us]
    · rw [pk_us]
  · rw [hver (d + 1) (by omega), hver 0 (by omega), cs_us, cs_un (by omega)]
    have := (v2 (d + 1) (by omega)).2
    intro h; have := cd_im h (by omega) (by omega); omega
end
end
section
/-! build: are all targets there -/
def cb_V (dr : Nat) (kind tX : Nat → Int32) (b : Nat) : Prop := ∀ k, kind b = nI k → 0 < k → k ≤ 5 → ∀ j, j < cg_ex k → tX (3 * b + j) < nI dr
theorem cb_ix (b j : Nat) : 3 * nI b + nI j = nI (3 * b + j) := cw_ix 3 b j
section
variable {f_drafted f_blocks f_edges f_probed f_paths f_fresh f_x f_y f_steps : Int32} {a_op a_with a_kind a_target a_from a_to a_exit a_weights a_inTree a_back a_first a_probes a_joined a_order a_ahead a_met a_way a_ways a_adds a_begins a_hits a_cuts a_gone a_runs a_version a_counts a_known : Nat → Int32} {g_made g_blocks g_edges g_paths g_many g_lastX g_lastY g_lastBlocks : Int32} {b_op b_number b_kind b_target b_from b_to b_exit b_weight b_firstEdge b_tree b_back b_row b_length b_gone b_done b_went b_cut b_kept b_mark b_way b_tried b_stack : Nat → Int32}
theorem cb_in {dr b k : Nat} (hb : b < 12) (hk : k ≤ 5) (hk0 : 0 < k) (hX : f_drafted = nI dr) (hY : g_made = nI dr) (hkb : a_kind b = nI k) (ht : ∀ j, j < cg_ex k → a_target (3 * b + j) = b_target (3 * b + j)) :
    ∀ r j, j + r = cg_ex k →
      ((∀ i, j ≤ i → i < cg_ex k → a_target (3 * b + i) < nI dr) ∧ (∀ post J, J (nI (b + 1)) → wX_build_21 post J (nI b) f_drafted f_blocks f_edges f_probed f_paths f_fresh f_x f_y f_steps a_op a_with a_kind a_target a_from a_to a_exit a_weights a_inTree a_back a_first a_probes a_joined a_order a_ahead a_met a_way a_ways a_adds a_begins a_hits a_cuts a_gone a_runs a_version a_counts a_known (r + 1) (nI j)) ∧ (∀ post J, J (nI (b + 1)) → wY_whole_35 post J (nI b) (nI (cg_ex k)) g_made g_blocks g_edges g_paths g_many g_lastX g_lastY g_lastBlocks b_op b_number b_kind b_target b_from b_to b_exit b_weight b_firstEdge b_tree b_back b_row b_length b_gone b_done b_went b_cut b_kept b_mark b_way b_tried b_stack (r + 1) (nI j))) ∨
      ((∀ post J, post (-1) (f_drafted, f_blocks, f_edges, f_probed, f_paths, f_fresh, f_x, f_y, f_steps, a_op, a_with, a_kind, a_target, a_from, a_to, a_exit, a_weights, a_inTree, a_back, a_first, a_probes, a_joined, a_order, a_ahead, a_met, a_way, a_ways, a_adds, a_begins, a_hits, a_cuts, a_gone, a_runs, a_version, a_counts, a_known) → wX_build_21 post J (nI b) f_drafted f_blocks f_edges f_probed f_paths f_fresh f_x f_y f_steps a_op a_with a_kind a_target a_from a_to a_exit a_weights a_inTree a_back a_first a_probes a_joined a_order a_ahead a_met a_way a_ways a_adds a_begins a_hits a_cuts a_gone a_runs a_version a_counts a_known (r + 1) (nI j)) ∧ (∀ post J, post 0 → wY_whole_35 post J (nI b) (nI (cg_ex k)) g_made g_blocks g_edges g_paths g_many g_lastX g_lastY g_lastBlocks b_op b_number b_kind b_target b_from b_to b_exit b_weight b_firstEdge b_tree b_back b_row b_length b_gone b_done b_went b_cut b_kept b_mark b_way b_tried b_stack (r + 1) (nI j))) := by
  have h3 := (cg_ex1 k).2
  have hpos : ¬ a_kind (nI b).toNatClampNeg ≤ 0 := by rw [cd_rd rfl (by omega) hkb]; exact nI_nle hk0 (by omega)
  intro r
  induction r with
  | zero =>
    intro j hj
    refine Or.inl ⟨fun i h1 h2 => by omega, fun post J hp => ?_, fun post J hp => ?_⟩
    · exact And.intro (vp_in_nI (by omega) (by omega)) (br_f hpos ⟨vp_in_nI (by omega) (by omega), cw_exX' (cd_rd rfl (by omega) hkb) hk _ (br_t (nI_le (by omega) (by omega)) (nm_r (nI_1 b) hp))⟩)
    · exact br_t (nI_le (by omega) (by omega)) (nm_r (nI_1 b) hp)
  | succ r ih =>
    intro j hj
    have hje : j < cg_ex k := by omega
    have htj := ht j hje
    by_cases h : a_target (3 * b + j) < nI dr
    · have hX' : a_target (3 * nI b + nI j).toNatClampNeg < f_drafted := by rw [cd_rd (a := a_target) (cb_ix b j) (by omega) rfl, hX]; exact h
      have hY' : b_target (3 * nI b + nI j).toNatClampNeg < g_made := by rw [cd_rd (a := b_target) (cb_ix b j) (by omega) rfl, hY, ← htj]; exact h
      rcases ih (j + 1) (by omega) with ⟨q1, q2, q3⟩ | ⟨q2, q3⟩
      · refine Or.inl ⟨fun i h1 h2 => ?_, fun post J hp => ?_, fun post J hp => ?_⟩
        · by_cases e : i = j
          · rw [e]; exact h
          · exact q1 i (by omega) h2
        · exact And.intro (vp_in_nI (by omega) (by omega)) (br_f hpos ⟨vp_in_nI (by omega) (by omega), cw_exX' (cd_rd rfl (by omega) hkb) hk _ (br_f (nI_ge hje (by omega)) ⟨pk_in (3 * b + j) 72 (by omega) (hx := cb_ix b j), br_t hX' (nm_r (nI_1 j) (q2 post J hp))⟩)⟩)
        · exact br_f (nI_ge hje (by omega)) ⟨pk_in (3 * b + j) 72 (by omega) (hx := cb_ix b j), br_t hY' (nm_r (nI_1 j) (q3 post J hp))⟩
      · refine Or.inr ⟨fun post J hp => ?_, fun post J hp => ?_⟩
        · exact And.intro (vp_in_nI (by omega) (by omega)) (br_f hpos ⟨vp_in_nI (by omega) (by omega), cw_exX' (cd_rd rfl (by omega) hkb) hk _ (br_f (nI_ge hje (by omega)) ⟨pk_in (3 * b + j) 72 (by omega) (hx := cb_ix b j), br_t hX' (nm_r (nI_1 j) (q2 post J hp))⟩)⟩)
        · exact br_f (nI_ge hje (by omega)) ⟨pk_in (3 * b + j) 72 (by omega) (hx := cb_ix b j), br_t hY' (nm_r (nI_1 j) (q3 post J hp))⟩
    · have hX' : ¬ a_target (3 * nI b + nI j).toNatClampNeg < f_drafted := by rw [cd_rd (a := a_target) (cb_ix b j) (by omega) rfl, hX]; exact h
      have hY' : ¬ b_target (3 * nI b + nI j).toNatClampNeg < g_made := by rw [cd_rd (a := b_target) (cb_ix b j) (by omega) rfl, hY, ← htj]; exact h
      refine Or.inr ⟨fun post J hp => ?_, fun post J hp => ?_⟩
      · exact And.intro (vp_in_nI (by omega) (by omega)) (br_f hpos ⟨vp_in_nI (by omega) (by omega), cw_exX' (cd_rd rfl (by omega) hkb) hk _ (br_f (nI_ge hje (by omega)) ⟨pk_in (3 * b + j) 72 (by omega) (hx := cb_ix b j), br_f hX' hp⟩)⟩)
      · exact br_f (nI_ge hje (by omega)) ⟨pk_in (3 * b + j) 72 (by omega) (hx := cb_ix b j), br_f hY' hp⟩
theorem cb_whole {dr : Nat} (hX : f_drafted = nI dr) (hY : g_made = nI dr) (h0 : 0 < dr) (hki : a_kind = b_kind) (D : cr_D dr a_op a_kind a_target b_target) :
    ∀ r b, b + r = dr →
      ((∀ c, b ≤ c → c < dr → cb_V dr a_kind a_target c) ∧ (∀ post, (∃ n89 : Nat, wX_build_89 post n89 0 f_drafted f_drafted 0 f_probed f_paths f_fresh f_x f_y f_steps a_op a_with a_kind a_target a_from a_to a_exit a_weights a_inTree a_back a_first a_probes a_joined a_order a_ahead a_met a_way a_ways a_adds a_begins a_hits a_cuts a_gone a_runs a_version a_counts a_known) → wX_build_11 post f_drafted f_blocks f_edges f_probed f_paths f_fresh f_x f_y f_steps a_op a_with a_kind a_target a_from a_to a_exit a_weights a_inTree a_back a_first a_probes a_joined a_order a_ahead a_met a_way a_ways a_adds a_begins a_hits a_cuts a_gone a_runs a_version a_counts a_known (r + 1) (nI b)) ∧ (∀ post, post 1 → wY_whole_2 post g_made g_blocks g_edges g_paths g_many g_lastX g_lastY g_lastBlocks b_op b_number b_kind b_target b_from b_to b_exit b_weight b_firstEdge b_tree b_back b_row b_length b_gone b_done b_went b_cut b_kept b_mark b_way b_tried b_stack (r + 1) (nI b))) ∨
      ((∀ post, post (-1) (f_drafted, f_blocks, f_edges, f_probed, f_paths, f_fresh, f_x, f_y, f_steps, a_op, a_with, a_kind, a_target, a_from, a_to, a_exit, a_weights, a_inTree, a_back, a_first, a_probes, a_joined, a_order, a_ahead, a_met, a_way, a_ways, a_adds, a_begins, a_hits, a_cuts, a_gone, a_runs, a_version, a_counts, a_known) → wX_build_11 post f_drafted f_blocks f_edges f_probed f_paths f_fresh f_x f_y f_steps a_op a_with a_kind a_target a_from a_to a_exit a_weights a_inTree a_back a_first a_probes a_joined a_order a_ahead a_met a_way a_ways a_adds a_begins a_hits a_cuts a_gone a_runs a_version a_counts a_known (r + 1) (nI b)) ∧ (∀ post, post 0 → wY_whole_2 post g_made g_blocks g_edges g_paths g_many g_lastX g_lastY g_lastBlocks b_op b_number b_kind b_target b_from b_to b_exit b_weight b_firstEdge b_tree b_back b_row b_length b_gone b_done b_went b_cut b_kept b_mark b_way b_tried b_stack (r + 1) (nI b))) := by
  obtain ⟨d1, d2, d3, d4⟩ := D
  intro r
  induction r with
  | zero =>
    intro b hb
    refine Or.inl ⟨fun c h1 h2 => by omega, fun post hp => br_t (by rw [hX]; exact nI_le (by omega) (by omega)) hp, fun post hp => br_t (by rw [hY]; exact nI_le (by omega) (by omega)) (br_f (by rw [hY]; exact nI_nle h0 (by omega)) hp)⟩
  | succ r ih =>
    intro b hb
    obtain ⟨k, hk5, hkb⟩ := d3 b (by omega)
    have hgX : ¬ f_drafted ≤ nI b := by rw [hX]; exact nI_ge (by omega) (by omega)
    have hgY : ¬ g_made ≤ nI b := by rw [hY]; exact nI_ge (by omega) (by omega)
    have hkY : b_kind (nI b).toNatClampNeg = nI k := by rw [← hki]; exact cd_rd rfl (by omega) hkb
    by_cases hk0 : k = 0
    · have sX : ∀ post J, J (nI (b + 1)) → wX_build_21 post J (nI b) f_drafted f_blocks f_edges f_probed f_paths f_fresh f_x f_y f_steps a_op a_with a_kind a_target a_from a_to a_exit a_weights a_inTree a_back a_first a_probes a_joined a_order a_ahead a_met a_way a_ways a_adds a_begins a_hits a_cuts a_gone a_runs a_version a_counts a_known 1 (nI 0) := fun post J hp => And.intro (vp_in_nI (by omega) (by omega)) (br_t (by rw [cd_rd rfl (by omega) hkb, hk0]; decide) (nm_r (nI_1 b) hp))
      have sY : ∀ post J, J (nI (b + 1)) → wY_whole_35 post J (nI b) 0 g_made g_blocks g_edges g_paths g_many g_lastX g_lastY g_lastBlocks b_op b_number b_kind b_target b_from b_to b_exit b_weight b_firstEdge b_tree b_back b_row b_length b_gone b_done b_went b_cut b_kept b_mark b_way b_tried b_stack 1 0 := fun post J hp => br_t (by decide) (nm_r (nI_1 b) hp)
      rcases ih (b + 1) (by omega) with ⟨q1, q2, q3⟩ | ⟨q2, q3⟩
      · refine Or.inl ⟨fun c h1 h2 => ?_, fun post hp => br_f hgX ⟨_, sX post _ (q2 post hp)⟩, fun post hp => br_f hgY ⟨vp_in_nI (by omega) (by omega), br_t (by rw [hkY, hk0]; rfl) ⟨_, sY post _ (q3 post hp)⟩⟩⟩
        by_cases e : c = b
        · subst e; intro k' hk' hp0 hp5; rw [hkb] at hk'; have := cd_im hk' (by omega) (by omega); omega
        · exact q1 c (by omega) h2
      · exact Or.inr ⟨fun post hp => br_f hgX ⟨_, sX post _ (q2 post hp)⟩, fun post hp => br_f hgY ⟨vp_in_nI (by omega) (by omega), br_t (by rw [hkY, hk0]; rfl) ⟨_, sY post _ (q3 post hp)⟩⟩⟩
    · have hin := cb_in (f_drafted := f_drafted) (f_blocks := f_blocks) (f_edges := f_edges) (f_probed := f_probed) (f_paths := f_paths) (f_fresh := f_fresh) (f_x := f_x) (f_y := f_y) (f_steps := f_steps) (a_op := a_op) (a_with := a_with) (a_kind := a_kind) (a_target := a_target) (a_from := a_from) (a_to := a_to) (a_exit := a_exit) (a_weights := a_weights) (a_inTree := a_inTree) (a_back := a_back) (a_first := a_first) (a_probes := a_probes) (a_joined := a_joined) (a_order := a_order) (a_ahead := a_ahead) (a_met := a_met) (a_way := a_way) (a_ways := a_ways) (a_adds := a_adds) (a_begins := a_begins) (a_hits := a_hits) (a_cuts := a_cuts) (a_gone := a_gone) (a_runs := a_runs) (a_version := a_version) (a_counts := a_counts) (a_known := a_known) (g_made := g_made) (g_blocks := g_blocks) (g_edges := g_edges) (g_paths := g_paths) (g_many := g_many) (g_lastX := g_lastX) (g_lastY := g_lastY) (g_lastBlocks := g_lastBlocks) (b_op := b_op) (b_number := b_number) (b_kind := b_kind) (b_target := b_target) (b_from := b_from) (b_to := b_to) (b_exit := b_exit) (b_weight := b_weight) (b_firstEdge := b_firstEdge) (b_tree := b_tree) (b_back := b_back) (b_row := b_row) (b_length := b_length) (b_gone := b_gone) (b_done := b_done) (b_went := b_went) (b_cut := b_cut) (b_kept := b_kept) (b_mark := b_mark) (b_way := b_way) (b_tried := b_tried) (b_stack := b_stack) (dr := dr) (b := b) (k := k) (by omega) hk5 (by omega) hX hY hkb (fun j hj => by
        obtain ⟨t, _, t1, t2⟩ := d4 b k (by omega) hkb (by omega) hk5 j hj
        rw [t1, t2]) (cg_ex k) 0 (by omega)
      have hYn : ¬ b_kind (nI b).toNatClampNeg = 0 := by rw [hkY]; exact nI_ne0 (by omega) (by omega)
      rcases hin with ⟨p1, p2, p3⟩ | ⟨p2, p3⟩
      · rcases ih (b + 1) (by omega) with ⟨q1, q2, q3⟩ | ⟨q2, q3⟩
        · refine Or.inl ⟨fun c h1 h2 => ?_, fun post hp => br_f hgX ⟨_, p2 post _ (q2 post hp)⟩, fun post hp => br_f hgY ⟨vp_in_nI (by omega) (by omega), br_f hYn ⟨vp_in_nI (by omega) (by omega), cw_exY' hkY hk5 _ ⟨_, p3 post _ (q3 post hp)⟩⟩⟩⟩
          by_cases e : c = b
          · subst e; intro k' hk' hp0 hp5 j hj
            rw [hkb] at hk'
            have := cd_im hk' (by omega) (by omega)
            subst this
            exact p1 j (by omega) hj
          · exact q1 c (by omega) h2
        · exact Or.inr ⟨fun post hp => br_f hgX ⟨_, p2 post _ (q2 post hp)⟩, fun post hp => br_f hgY ⟨vp_in_nI (by omega) (by omega), br_f hYn ⟨vp_in_nI (by omega) (by omega), cw_exY' hkY hk5 _ ⟨_, p3 post _ (q3 post hp)⟩⟩⟩⟩
      · exact Or.inr ⟨fun post hp => br_f hgX ⟨_, p2 post _ hp⟩, fun post hp => br_f hgY ⟨vp_in_nI (by omega) (by omega), br_f hYn ⟨vp_in_nI (by omega) (by omega), cw_exY' hkY hk5 _ ⟨_, p3 post _ hp⟩⟩⟩⟩
end
end
section
/-! build: the edges -/
def cb_EI (e : Nat) (F T : Nat → Nat) (aF aT aE aW bF bT bE bW : Nat → Int32) : Prop := ∀ x, x < e → aF x = nI (F x) ∧ bF x = cd_cv (F x) ∧ aT x = nI (T x) ∧ bT x = cd_cv (T x) ∧ aE x = bE x ∧ aW x = bW x
theorem cb_EIs {e b t : Nat} {y : Int32} {F T : Nat → Nat} {aF aT aE aW bF bT bE bW : Nat → Int32} (h : cb_EI e F T aF aT aE aW bF bT bE bW) :
    cb_EI (e + 1) (cs_u F e b) (cs_u T e t) (upd aF e (nI b)) (upd aT e (nI t)) (upd aE e y) (upd aW e 0) (upd bF e (cd_cv b)) (upd bT e (cd_cv t)) (upd bE e y) (upd bW e 0) := by
  intro x hx
  by_cases ex : x = e
  · subst ex; simp only [pk_us, cs_us]; exact ⟨trivial, trivial, trivial, trivial, trivial, trivial⟩
  · simp only [pk_un ex, cs_un ex]; exact h x (by omega)
def cb_fs (ki : Nat → Nat) (b : Nat) : Nat := cs_n b (fun c => cg_ex (ki c))
theorem cb_fsm (ki : Nat → Nat) {a : Nat} : ∀ b, a ≤ b → cb_fs ki a ≤ cb_fs ki b := by
  intro b
  induction b with
  | zero => intro h; have : a = 0 := by omega
            subst this; exact Nat.le_refl _
  | succ b ih =>
    intro h
    by_cases e : a = b + 1
    · subst e; exact Nat.le_refl _
    · have := ih (by omega)
      show cb_fs ki a ≤ cb_fs ki b + cg_ex (ki b)
      omega
theorem cb_uq {ki : Nat → Nat} {b j b' j' : Nat} (hj : j < cg_ex (ki b)) (hj' : j' < cg_ex (ki b')) (h : cb_fs ki b + j = cb_fs ki b' + j') : b = b' := by
  rcases Nat.lt_trichotomy b b' with h1 | h1 | h1
  · have := cb_fsm ki (a := b + 1) b' (by omega)
    have h2 : cb_fs ki (b + 1) = cb_fs ki b + cg_ex (ki b) := rfl
    omega
  · exact h1
  · have := cb_fsm ki (a := b' + 1) b (by omega)
    have h2 : cb_fs ki (b' + 1) = cb_fs ki b' + cg_ex (ki b') := rfl
    omega
theorem cb_fs3 (ki : Nat → Nat) : ∀ b, cb_fs ki b ≤ 3 * b := by
  intro b
  induction b with
  | zero => exact Nat.le_refl _
  | succ b ih =>
    show cb_fs ki b + cg_ex (ki b) ≤ _
    have := (cg_ex1 (ki b)).2
    omega
def cb_GI (nb e : Nat) (ki F T : Nat → Nat) : Prop := ∀ b j, b < nb → j < cg_ex (ki b) → cb_fs ki b + j < e → F (cb_fs ki b + j) = b ∧ (T (cb_fs ki b + j) < nb ∨ T (cb_fs ki b + j) = 12)
theorem cb_GIs {nb b j t : Nat} {ki F T : Nat → Nat} (h : cb_GI nb (cb_fs ki b + j) ki F T) (hj : j < cg_ex (ki b)) (ht : t < nb ∨ t = 12) : cb_GI nb (cb_fs ki b + j + 1) ki (cs_u F (cb_fs ki b + j) b) (cs_u T (cb_fs ki b + j) t) := by
  intro b' j' hb' hj' hlt
  by_cases e : cb_fs ki b' + j' = cb_fs ki b + j
  · rw [e, cs_us, cs_us]; exact ⟨(cb_uq hj' hj e).symm, ht⟩
  · rw [cs_un e, cs_un e]; exact h b' j' hb' hj' (by omega)
section
variable {f_drafted f_blocks f_edges f_probed f_paths f_fresh f_x f_y f_steps : Int32} {a_op a_with a_kind a_target a_from a_to a_exit a_weights a_inTree a_back a_first a_probes a_joined a_order a_ahead a_met a_way a_ways a_adds a_begins a_hits a_cuts a_gone a_runs a_version a_counts a_known : Nat → Int32}
theorem cb_addX {e b t j : Nat} (he : e < 37) (hb : b < 128) (ht : t < 128) (hj : j < 128) {p0 p1 p2 : Int32} (h0 : p0 = nI b) (h1 : p1 = nI t) (h2 : p2 = nI j) (hE : f_edges = nI e) (post : SX → Prop)
    (h : post (f_drafted, f_blocks, nI (e + 1), f_probed, f_paths, f_fresh, f_x, f_y, f_steps, a_op, a_with, a_kind, a_target, upd a_from e (nI b), upd a_to e (nI t), upd a_exit e (nI j), upd a_weights e 0, a_inTree, a_back, a_first, a_probes, a_joined, a_order, a_ahead, a_met, a_way, a_ways, a_adds, a_begins, a_hits, a_cuts, a_gone, a_runs, a_version, a_counts, a_known)) : wpX_addEdge post (f_drafted, f_blocks, f_edges, f_probed, f_paths, f_fresh, f_x, f_y, f_steps, a_op, a_with, a_kind, a_target, a_from, a_to, a_exit, a_weights, a_inTree, a_back, a_first, a_probes, a_joined, a_order, a_ahead, a_met, a_way, a_ways, a_adds, a_begins, a_hits, a_cuts, a_gone, a_runs, a_version, a_counts, a_known) p0 p1 p2 := by
  subst h0 h1 h2 hE
  exact And.intro (vp_in_nI he (by omega)) (nm_r (cd_up rfl (by omega) (cd_nb hb)) ⟨vp_in_nI he (by omega), nm_r (cd_up rfl (by omega) (cd_nb ht)) ⟨vp_in_nI he (by omega), nm_r (cd_up rfl (by omega) (cd_nb hj)) ⟨vp_in_nI he (by omega), nm_r (cd_up rfl (by omega) rfl) (nm_r (nI_1 e) h)⟩⟩⟩)
end
section
variable {g_made g_blocks g_edges g_paths g_many g_lastX g_lastY g_lastBlocks : Int32} {b_op b_number b_kind b_target b_from b_to b_exit b_weight b_firstEdge b_tree b_back b_row b_length b_gone b_done b_went b_cut b_kept b_mark b_way b_tried b_stack : Nat → Int32}
theorem cb_addY {e : Nat} (he : e < 37) {p0 p1 p2 q0 q1 q2 : Int32} (h0 : p0 = q0) (h1 : p1 = q1) (h2 : p2 = q2) (hE : g_edges = nI e) (post : SY → Prop)
    (h : post (g_made, g_blocks, nI (e + 1), g_paths, g_many, g_lastX, g_lastY, g_lastBlocks, b_op, b_number, b_kind, b_target, upd b_from e q0, upd b_to e q2, upd b_exit e q1, upd b_weight e 0, b_firstEdge, b_tree, b_back, b_row, b_length, b_gone, b_done, b_went, b_cut, b_kept, b_mark, b_way, b_tried, b_stack)) : wpY_addEdge post (g_made, g_blocks, g_edges, g_paths, g_many, g_lastX, g_lastY, g_lastBlocks, b_op, b_number, b_kind, b_target, b_from, b_to, b_exit, b_weight, b_firstEdge, b_tree, b_back, b_row, b_length, b_gone, b_done, b_went, b_cut, b_kept, b_mark, b_way, b_tried, b_stack) p0 p1 p2 := by
  subst h0 h1 h2 hE
  exact And.intro (vp_in_nI he (by omega)) (nm_r (cd_up rfl (by omega) rfl) ⟨vp_in_nI he (by omega), nm_r (cd_up rfl (by omega) rfl) ⟨vp_in_nI he (by omega), nm_r (cd_up rfl (by omega) rfl) ⟨vp_in_nI he (by omega), nm_r (cd_up rfl (by omega) rfl) (nm_r (nI_1 e) h)⟩⟩⟩)
end
section
variable {f_drafted f_blocks f_edges f_probed f_paths f_fresh f_x f_y f_steps : Int32} {a_op a_with a_kind a_target a_from a_to a_exit a_weights a_inTree a_back a_first a_probes a_joined a_order a_ahead a_met a_way a_ways a_adds a_begins a_hits a_cuts a_gone a_runs a_version a_counts a_known : Nat → Int32} {g_made g_blocks g_edges g_paths g_many g_lastX g_lastY g_lastBlocks : Int32} {b_op b_number b_kind b_target b_from b_to b_exit b_weight b_firstEdge b_tree b_back b_row b_length b_gone b_done b_went b_cut b_kept b_mark b_way b_tried b_stack : Nat → Int32}
/-- the edges of one block -/
theorem cb_68 {nb b : Nat} {ki : Nat → Nat} (hnb : nb ≤ 12) (hb : b < nb) (hk : ki b ≤ 5) (hkX : a_kind b = nI (ki b)) (hkY : b_kind b = nI (ki b))
    (ht : ∀ j, j < cg_ex (ki b) → ∃ t, (ki b = 0 ∧ t = 12) ∨ (0 < ki b ∧ t < nb ∧ a_target (3 * b + j) = nI t ∧ b_target (3 * b + j) = nI t)) :
    ∀ r j (F T : Nat → Nat) a_from a_to a_exit a_weights b_from b_to b_exit b_weight, j + r = cg_ex (ki b) → cb_EI (cb_fs ki b + j) F T a_from a_to a_exit a_weights b_from b_to b_exit b_weight → cb_GI nb (cb_fs ki b + j) ki F T →
      ∃ (F' T' : Nat → Nat) (aF aT aE aW bF bT bE bW : Nat → Int32), cb_EI (cb_fs ki (b + 1)) F' T' aF aT aE aW bF bT bE bW ∧ cb_GI nb (cb_fs ki (b + 1)) ki F' T' ∧
        (∀ post, post (f_drafted, f_blocks, nI (cb_fs ki (b + 1)), f_probed, f_paths, f_fresh, f_x, f_y, f_steps, a_op, a_with, a_kind, a_target, aF, aT, aE, aW, a_inTree, a_back, a_first, a_probes, a_joined, a_order, a_ahead, a_met, a_way, a_ways, a_adds, a_begins, a_hits, a_cuts, a_gone, a_runs, a_version, a_counts, a_known) → wX_install_68 post (nI b) (nI (cg_ex (ki b))) (r + 1) (nI j) f_drafted f_blocks (nI (cb_fs ki b + j)) f_probed f_paths f_fresh f_x f_y f_steps a_op a_with a_kind a_target a_from a_to a_exit a_weights a_inTree a_back a_first a_probes a_joined a_order a_ahead a_met a_way a_ways a_adds a_begins a_hits a_cuts a_gone a_runs a_version a_counts a_known) ∧
        (∀ post J, J (nI (b + 1)) g_made g_blocks (nI (cb_fs ki (b + 1))) g_paths g_many g_lastX g_lastY g_lastBlocks b_op b_number b_kind b_target bF bT bE bW b_firstEdge b_tree b_back b_row b_length b_gone b_done b_went b_cut b_kept b_mark b_way b_tried b_stack → wY_build_89 post J (nI b) (r + 1) (nI j) g_made g_blocks (nI (cb_fs ki b + j)) g_paths g_many g_lastX g_lastY g_lastBlocks b_op b_number b_kind b_target b_from b_to b_exit b_weight b_firstEdge b_tree b_back b_row b_length b_gone b_done b_went b_cut b_kept b_mark b_way b_tried b_stack) := by
  have hx3 := (cg_ex1 (ki b)).2
  have hf3 := cb_fs3 ki b
  have hfs : cb_fs ki (b + 1) = cb_fs ki b + cg_ex (ki b) := rfl
  have rX : a_kind (nI b).toNatClampNeg = nI (ki b) := cd_rd rfl (by omega) hkX
  have rY : b_kind (nI b).toNatClampNeg = nI (ki b) := cd_rd rfl (by omega) hkY
  intro r
  induction r with
  | zero =>
    intro j F T a_from a_to a_exit a_weights b_from b_to b_exit b_weight hj hE hG
    have ej : j = cg_ex (ki b) := by omega
    rw [ej] at hE hG ⊢
    refine ⟨F, T, a_from, a_to, a_exit, a_weights, b_from, b_to, b_exit, b_weight, hE, hG, fun post hp => br_t (nI_le (Nat.le_refl _) (by omega)) hp, fun post J hp => And.intro (vp_in_nI (by omega) (by omega)) (cw_exY' rY hk _ (br_t (nI_le (Nat.le_refl _) (by omega)) (nm_r (nI_1 b) hp)))⟩
  | succ r ih =>
    intro j F T a_from a_to a_exit a_weights b_from b_to b_exit b_weight hj hE hG
    have hje : j < cg_ex (ki b) := by omega
    obtain ⟨t, ht'⟩ := ht j hje
    have ht12 : t < nb ∨ t = 12 := by
      rcases ht' with h | h
      · exact Or.inr h.2
      · exact Or.inl h.2.1
    obtain ⟨F', T', aF, aT, aE, aW, bF, bT, bE, bW, q1, q2, q3, q4⟩ := ih (j + 1) _ _ _ _ _ _ _ _ _ _ (by omega) (cb_EIs (b := b) (t := t) (y := nI j) hE) (cb_GIs hG hje ht12)
    refine ⟨F', T', aF, aT, aE, aW, bF, bT, bE, bW, q1, q2, fun post hp => ?_, fun post J hp => ?_⟩
    · have hnx := q3 post hp
      have key : ∀ z0 : Int32, z0 = nI t → wX_install_99 post (wX_install_68 post (nI b) (nI (cg_ex (ki b))) (r + 1)) (nI b) (nI (cg_ex (ki b))) (nI j) z0 (nI b) f_drafted f_blocks (nI (cb_fs ki b + j)) f_probed f_paths f_fresh f_x f_y f_steps a_op a_with a_kind a_target a_from a_to a_exit a_weights a_inTree a_back a_first a_probes a_joined a_order a_ahead a_met a_way a_ways a_adds a_begins a_hits a_cuts a_gone a_runs a_version a_counts a_known := fun z0 hz =>
        cb_addX (e := cb_fs ki b + j) (b := b) (t := t) (j := j) (by omega) (by omega) (by omega) (by omega) rfl hz rfl rfl _ (nm_r (nI_1 j) hnx)
      refine br_f (nI_ge hje (by omega)) ⟨vp_in_nI (by omega) (by omega), ?_⟩
      rcases ht' with ⟨h1, h2⟩ | ⟨h1, h2, h3, h4⟩
      · exact br_t (by rw [rX, h1]; rfl) (key 12 (by rw [h2]; rfl))
      · exact br_f (by rw [rX]; exact nI_ne0 h1 (by omega)) ⟨pk_in (3 * b + j) 72 (by omega) (hx := cb_ix b j), key _ (cd_rd (cb_ix b j) (by omega) h3)⟩
    · have hnx := q4 post J hp
      have key : ∀ z0 : Int32, z0 = cd_cv t → wY_build_128 post J (wY_build_89 post J (nI b) (r + 1)) (nI b) (nI j) z0 (nI j) (nI b) g_made g_blocks (nI (cb_fs ki b + j)) g_paths g_many g_lastX g_lastY g_lastBlocks b_op b_number b_kind b_target b_from b_to b_exit b_weight b_firstEdge b_tree b_back b_row b_length b_gone b_done b_went b_cut b_kept b_mark b_way b_tried b_stack := fun z0 hz =>
        cb_addY (e := cb_fs ki b + j) (by omega) (q0 := cd_cv b) (q1 := nI j) (q2 := cd_cv t) (cd_cvn (by omega)).symm rfl hz rfl _ (nm_r (nI_1 j) hnx)
      refine And.intro (vp_in_nI (by omega) (by omega)) (cw_exY' rY hk _ (br_f (nI_ge hje (by omega)) ⟨vp_in_nI (by omega) (by omega), ?_⟩))
      rcases ht' with ⟨h1, h2⟩ | ⟨h1, h2, h3, h4⟩
      · exact br_t (by rw [rY, h1]; rfl) (key (-1) (by rw [h2]; rfl))
      · exact br_f (by rw [rY]; exact nI_ne0 h1 (by omega)) ⟨pk_in (3 * b + j) 72 (by omega) (hx := cb_ix b j), key _ (by rw [cd_rd (cb_ix b j) (by omega) h4, cd_cvn (by omega)])⟩
/-- what the blocks hold, behind the first b -/
def cb_OI (nb b : Nat) (ki : Nat → Nat) (kind0 op kind first yf : Nat → Int32) : Prop :=
  (∀ i, i < 24 → ∃ o, o ≤ 7 ∧ op i = nI o) ∧ (∀ i, i < 24 → ∃ k, k ≤ 5 ∧ kind i = nI k) ∧ (∀ c, c < 12 → kind c = kind0 c) ∧ (∀ c, c < b → kind (12 + c) = nI (ki c)) ∧ (∀ c, c < b → first c = nI (cb_fs ki c) ∧ yf c = nI (cb_fs ki c))
theorem cb_89 {nb : Nat} {ki : Nat → Nat} {kind0 : Nat → Int32} (hnb : nb ≤ 12) (hB : f_blocks = nI nb) (hB' : g_blocks = nI nb) (hki : ∀ b, b < nb → ki b ≤ 5 ∧ kind0 b = nI (ki b))
    (ht : ∀ b j, b < nb → j < cg_ex (ki b) → ∃ t, (ki b = 0 ∧ t = 12) ∨ (0 < ki b ∧ t < nb ∧ a_target (3 * b + j) = nI t ∧ b_target (3 * b + j) = nI t)) :
    ∀ r b (F T : Nat → Nat) a_op a_with a_kind a_first b_firstEdge a_from a_to a_exit a_weights b_from b_to b_exit b_weight, b + r = nb → cb_OI nb b ki kind0 a_op a_kind a_first b_firstEdge → cb_EI (cb_fs ki b) F T a_from a_to a_exit a_weights b_from b_to b_exit b_weight → cb_GI nb (cb_fs ki b) ki F T →
      ∃ (F' T' : Nat → Nat) (op wi kd fi yf aF aT aE aW bF bT bE bW : Nat → Int32), cb_OI nb nb ki kind0 op kd fi yf ∧ cb_EI (cb_fs ki nb) F' T' aF aT aE aW bF bT bE bW ∧ cb_GI nb (cb_fs ki nb) ki F' T' ∧
        (∀ post, wX_build_89 post 1 (nI nb) f_drafted f_blocks (nI (cb_fs ki nb)) f_probed f_paths f_fresh f_x f_y f_steps op wi kd a_target aF aT aE aW a_inTree a_back fi a_probes a_joined a_order a_ahead a_met a_way a_ways a_adds a_begins a_hits a_cuts a_gone a_runs a_version a_counts a_known → wX_build_89 post (r + 1) (nI b) f_drafted f_blocks (nI (cb_fs ki b)) f_probed f_paths f_fresh f_x f_y f_steps a_op a_with a_kind a_target a_from a_to a_exit a_weights a_inTree a_back a_first a_probes a_joined a_order a_ahead a_met a_way a_ways a_adds a_begins a_hits a_cuts a_gone a_runs a_version a_counts a_known) ∧
        (∀ post, wY_build_24 post 1 (nI nb) g_made g_blocks (nI (cb_fs ki nb)) g_paths g_many g_lastX g_lastY g_lastBlocks op wi kd b_target bF bT bE bW yf b_tree b_back b_row b_length b_gone b_done b_went b_cut b_kept b_mark b_way b_tried b_stack → wY_build_24 post (r + 1) (nI b) g_made g_blocks (nI (cb_fs ki b)) g_paths g_many g_lastX g_lastY g_lastBlocks a_op a_with a_kind b_target b_from b_to b_exit b_weight b_firstEdge b_tree b_back b_row b_length b_gone b_done b_went b_cut b_kept b_mark b_way b_tried b_stack) := by
  intro r
  induction r with
  | zero =>
    intro b F T a_op a_with a_kind a_first b_firstEdge a_from a_to a_exit a_weights b_from b_to b_exit b_weight hb hO hE hG
    have eb : b = nb := by omega
    subst eb
    exact ⟨F, T, a_op, a_with, a_kind, a_first, b_firstEdge, a_from, a_to, a_exit, a_weights, b_from, b_to, b_exit, b_weight, hO, hE, hG, fun post hp => hp, fun post hp => hp⟩
  | succ r ih =>
    intro b F T a_op a_with a_kind a_first b_firstEdge a_from a_to a_exit a_weights b_from b_to b_exit b_weight hb hO hE hG
    obtain ⟨o1, o2, o3, o4, o5⟩ := hO
    have hbn : b < nb := by omega
    have hf3 := cb_fs3 ki b
    obtain ⟨hk5, hk0⟩ := hki b hbn
    have hkb : a_kind b = nI (ki b) := (o3 b (by omega)).trans hk0
    have hkb' : upd a_kind (12 + b) (nI (ki b)) b = nI (ki b) := by rw [pk_un (by omega)]; exact hkb
    obtain ⟨ob, ob1, ob2⟩ := o1 b (by omega)
    obtain ⟨F1, T1, aF1, aT1, aE1, aW1, bF1, bT1, bE1, bW1, p1, p2, p3, p4⟩ := cb_68 (f_drafted := f_drafted) (f_blocks := f_blocks) (f_probed := f_probed) (f_paths := f_paths) (f_fresh := f_fresh) (f_x := f_x) (f_y := f_y) (f_steps := f_steps) (a_target := a_target) (a_inTree := a_inTree) (a_back := a_back) (a_probes := a_probes) (a_joined := a_joined) (a_order := a_order) (a_ahead := a_ahead) (a_met := a_met) (a_way := a_way) (a_ways := a_ways) (a_adds := a_adds) (a_begins := a_begins) (a_hits := a_hits) (a_cuts := a_cuts) (a_gone := a_gone) (a_runs := a_runs) (a_version := a_version) (a_counts := a_counts) (a_known := a_known) (g_made := g_made) (g_blocks := g_blocks) (g_paths := g_paths) (g_many := g_many) (g_lastX := g_lastX) (g_lastY := g_lastY) (g_lastBlocks := g_lastBlocks) (b_target := b_target) (b_tree := b_tree) (b_back := b_back) (b_row := b_row) (b_length := b_length) (b_gone := b_gone) (b_done := b_done) (b_went := b_went) (b_cut := b_cut) (b_kept := b_kept) (b_mark := b_mark) (b_way := b_way) (b_tried := b_tried) (b_stack := b_stack)
      (a_op := upd a_op (12 + b) (nI ob)) (a_with := upd a_with (12 + b) (a_with b)) (a_kind := upd a_kind (12 + b) (nI (ki b))) (a_first := upd a_first b (nI (cb_fs ki b))) (b_op := upd a_op (12 + b) (nI ob)) (b_number := upd a_with (12 + b) (a_with b)) (b_kind := upd a_kind (12 + b) (nI (ki b))) (b_firstEdge := upd b_firstEdge b (nI (cb_fs ki b)))
      (nb := nb) (b := b) (ki := ki) hnb hbn hk5 hkb' hkb' (fun j hj => ht b j hbn hj) (cg_ex (ki b)) 0 F T a_from a_to a_exit a_weights b_from b_to b_exit b_weight (by omega) hE hG
    obtain ⟨F', T', op, wi, kd, fi, yf, aF, aT, aE, aW, bF, bT, bE, bW, q1, q2, q3, q4, q5⟩ := ih (b + 1) F1 T1 (upd a_op (12 + b) (nI ob)) (upd a_with (12 + b) (a_with b)) (upd a_kind (12 + b) (nI (ki b))) (upd a_first b (nI (cb_fs ki b))) (upd b_firstEdge b (nI (cb_fs ki b))) aF1 aT1 aE1 aW1 bF1 bT1 bE1 bW1 (by omega)
      ⟨fun i hi => by
          by_cases e : i = 12 + b
          · rw [e, pk_us]; exact ⟨ob, ob1, rfl⟩
          · rw [pk_un e]; exact o1 i hi, fun i hi => by
          by_cases e : i = 12 + b
          · rw [e, pk_us]; exact ⟨ki b, hk5, rfl⟩
          · rw [pk_un e]; exact o2 i hi, fun c hc => by rw [pk_un (by omega)]; exact o3 c hc, fun c hc => by
          by_cases e : c = b
          · rw [e, pk_us]
          · rw [pk_un (by omega)]; exact o4 c (by omega), fun c hc => by
          by_cases e : c = b
          · rw [e, pk_us, pk_us]; exact ⟨rfl, rfl⟩
          · rw [pk_un e, pk_un e]; exact o5 c (by omega)⟩ p1 p2
    refine ⟨F', T', op, wi, kd, fi, yf, aF, aT, aE, aW, bF, bT, bE, bW, q1, q2, q3, fun post hp => ?_, fun post hp => ?_⟩
    · refine br_f (by rw [hB]; exact nI_ge hbn (by omega)) ?_
      refine And.intro (vp_in_nI (by omega) (by omega)) ⟨pk_in (12 + b) 24 (by omega) (hx := nI_add 12 b), nm_r (cd_up (nI_add 12 b) (by omega) (by rw [cd_rd rfl (by omega) ob2, cd_nb' (by omega)])) ⟨vp_in_nI (by omega) (by omega), pk_in (12 + b) 24 (by omega) (hx := nI_add 12 b), nm_r (cd_up (nI_add 12 b) (by omega) (cd_rd rfl (by omega) rfl)) ⟨vp_in_nI (by omega) (by omega), pk_in (12 + b) 24 (by omega) (hx := nI_add 12 b), nm_r (cd_up (nI_add 12 b) (by omega) (by rw [cd_rd rfl (by omega) hkb, cd_nb' (by omega)])) ⟨vp_in_nI (by omega) (by omega), nm_r (cd_up rfl (by omega) (cd_nb (by omega))) ⟨vp_in_nI (by omega) (by omega), cw_exX' (cd_rd rfl (by omega) hkb') hk5 _ ⟨_, p3 _ (nm_r (nI_1 b) (q4 post hp))⟩⟩⟩⟩⟩⟩
    · refine br_f (by rw [hB']; exact nI_ge hbn (by omega)) ?_
      exact And.intro (vp_in_nI (by omega) (by omega)) ⟨pk_in (12 + b) 24 (by omega) (hx := nI_add 12 b), nm_r (cd_up (nI_add 12 b) (by omega) (cd_rd rfl (by omega) ob2)) ⟨vp_in_nI (by omega) (by omega), pk_in (12 + b) 24 (by omega) (hx := nI_add 12 b), nm_r (cd_up (nI_add 12 b) (by omega) (cd_rd rfl (by omega) rfl)) ⟨vp_in_nI (by omega) (by omega), pk_in (12 + b) 24 (by omega) (hx := nI_add 12 b), nm_r (cd_up (nI_add 12 b) (by omega) (cd_rd rfl (by omega) hkb)) ⟨vp_in_nI (by omega) (by omega), nm_r (cd_up rfl (by omega) rfl) ⟨_, p4 post _ (q5 post hp)⟩⟩⟩⟩⟩
end
end
section
/-! build and weight -/
section
variable {f_drafted f_blocks f_edges f_probed f_paths f_fresh f_x f_y f_steps : Int32} {a_op a_with a_kind a_target a_from a_to a_exit a_weights a_inTree a_back a_first a_probes a_joined a_order a_ahead a_met a_way a_ways a_adds a_begins a_hits a_cuts a_gone a_runs a_version a_counts a_known : Nat → Int32} {g_made g_blocks g_edges g_paths g_many g_lastX g_lastY g_lastBlocks : Int32} {b_op b_number b_kind b_target b_from b_to b_exit b_weight b_firstEdge b_tree b_back b_row b_length b_gone b_done b_went b_cut b_kept b_mark b_way b_tried b_stack : Nat → Int32}
set_option maxHeartbeats 4000000 in
theorem cb_mid {k : Nat} {nb : Nat} {ki fs F T : Nat → Nat} (hD : ∃ dr, f_drafted = nI dr ∧ g_made = nI dr ∧ cr_D dr a_op a_kind a_target b_target) (hop : a_op = b_op ∧ a_with = b_number ∧ a_kind = b_kind) (hxy : f_x = g_lastX ∧ f_y = g_lastY ∧ f_steps = g_lastBlocks) (hk : k + 6 ≤ 3072) (hV : cr_V k a_version)
    (hEE : cr_E nb ki fs F T f_blocks f_edges g_blocks g_edges a_kind a_from a_to a_exit a_first b_from b_to b_exit b_firstEdge) (hw : ∀ e, e < fs nb + 1 → a_weights e = b_weight e) :
    ∃ (u' : SX) (v' : SY), i_Rel (k + 6) u' v' ∧
      (∀ post : Int32 → SX → Prop, post f_edges u' → wpX_findBack (fun u => match u with | (f_drafted, f_blocks, f_edges, f_probed, f_paths, f_fresh, f_x, f_y, f_steps, a_op, a_with, a_kind, a_target, a_from, a_to, a_exit, a_weights, a_inTree, a_back, a_first, a_probes, a_joined, a_order, a_ahead, a_met, a_way, a_ways, a_adds, a_begins, a_hits, a_cuts, a_gone, a_runs, a_version, a_counts, a_known) => (wpX_countPaths (fun u => match u with | (f_drafted, f_blocks, f_edges, f_probed, f_paths, f_fresh, f_x, f_y, f_steps, a_op, a_with, a_kind, a_target, a_from, a_to, a_exit, a_weights, a_inTree, a_back, a_first, a_probes, a_joined, a_order, a_ahead, a_met, a_way, a_ways, a_adds, a_begins, a_hits, a_cuts, a_gone, a_runs, a_version, a_counts, a_known) => (wpX_plant (fun u => match u with | (f_drafted, f_blocks, f_edges, f_probed, f_paths, f_fresh, f_x, f_y, f_steps, a_op, a_with, a_kind, a_target, a_from, a_to, a_exit, a_weights, a_inTree, a_back, a_first, a_probes, a_joined, a_order, a_ahead, a_met, a_way, a_ways, a_adds, a_begins, a_hits, a_cuts, a_gone, a_runs, a_version, a_counts, a_known) => (post f_edges (f_drafted, f_blocks, f_edges, f_probed, f_paths, f_fresh, f_x, f_y, f_steps, a_op, a_with, a_kind, a_target, a_from, a_to, a_exit, a_weights, a_inTree, a_back, a_first, a_probes, a_joined, a_order, a_ahead, a_met, a_way, a_ways, a_adds, a_begins, a_hits, a_cuts, a_gone, a_runs, a_version, a_counts, a_known))) (f_drafted, f_blocks, f_edges, f_probed, f_paths, f_fresh, f_x, f_y, f_steps, a_op, a_with, a_kind, a_target, a_from, a_to, a_exit, a_weights, a_inTree, a_back, a_first, a_probes, a_joined, a_order, a_ahead, a_met, a_way, a_ways, a_adds, a_begins, a_hits, a_cuts, a_gone, a_runs, a_version, a_counts, a_known))) (f_drafted, f_blocks, f_edges, f_probed, f_paths, f_fresh, f_x, f_y, f_steps, a_op, a_with, a_kind, a_target, a_from, a_to, a_exit, a_weights, a_inTree, a_back, a_first, a_probes, a_joined, a_order, a_ahead, a_met, a_way, a_ways, a_adds, a_begins, a_hits, a_cuts, a_gone, a_runs, a_version, a_counts, a_known))) (f_drafted, f_blocks, f_edges, f_probed, f_paths, f_fresh, f_x, f_y, f_steps, a_op, a_with, a_kind, a_target, a_from, a_to, a_exit, a_weights, a_inTree, a_back, a_first, a_probes, a_joined, a_order, a_ahead, a_met, a_way, a_ways, a_adds, a_begins, a_hits, a_cuts, a_gone, a_runs, a_version, a_counts, a_known)) ∧
      (∀ post : Int32 → SY → Prop, post g_edges v' → wpY_findBack (fun u => match u with | (g_made, g_blocks, g_edges, g_paths, g_many, g_lastX, g_lastY, g_lastBlocks, b_op, b_number, b_kind, b_target, b_from, b_to, b_exit, b_weight, b_firstEdge, b_tree, b_back, b_row, b_length, b_gone, b_done, b_went, b_cut, b_kept, b_mark, b_way, b_tried, b_stack) => (wpY_findPaths (fun u => match u with | (g_made, g_blocks, g_edges, g_paths, g_many, g_lastX, g_lastY, g_lastBlocks, b_op, b_number, b_kind, b_target, b_from, b_to, b_exit, b_weight, b_firstEdge, b_tree, b_back, b_row, b_length, b_gone, b_done, b_went, b_cut, b_kept, b_mark, b_way, b_tried, b_stack) => (wpY_renew (fun u => match u with | (g_made, g_blocks, g_edges, g_paths, g_many, g_lastX, g_lastY, g_lastBlocks, b_op, b_number, b_kind, b_target, b_from, b_to, b_exit, b_weight, b_firstEdge, b_tree, b_back, b_row, b_length, b_gone, b_done, b_went, b_cut, b_kept, b_mark, b_way, b_tried, b_stack) => (post g_edges (g_made, g_blocks, g_edges, g_paths, g_many, g_lastX, g_lastY, g_lastBlocks, b_op, b_number, b_kind, b_target, b_from, b_to, b_exit, b_weight, b_firstEdge, b_tree, b_back, b_row, b_length, b_gone, b_done, b_went, b_cut, b_kept, b_mark, b_way, b_tried, b_stack))) (g_made, g_blocks, g_edges, g_paths, g_many, g_lastX, g_lastY, g_lastBlocks, b_op, b_number, b_kind, b_target, b_from, b_to, b_exit, b_weight, b_firstEdge, b_tree, b_back, b_row, b_length, b_gone, b_done, b_went, b_cut, b_kept, b_mark, b_way, b_tried, b_stack))) (g_made, g_blocks, g_edges, g_paths, g_many, g_lastX, g_lastY, g_lastBlocks, b_op, b_number, b_kind, b_target, b_from, b_to, b_exit, b_weight, b_firstEdge, b_tree, b_back, b_row, b_length, b_gone, b_done, b_went, b_cut, b_kept, b_mark, b_way, b_tried, b_stack))) (g_made, g_blocks, g_edges, g_paths, g_many, g_lastX, g_lastY, g_lastBlocks, b_op, b_number, b_kind, b_target, b_from, b_to, b_exit, b_weight, b_firstEdge, b_tree, b_back, b_row, b_length, b_gone, b_done, b_went, b_cut, b_kept, b_mark, b_way, b_tried, b_stack)) := by
  have hEE' := hEE
  obtain ⟨G, ⟨e1, e2, e3, e4⟩, e5, e6, e7, e8⟩ := hEE
  have hki : ∀ b, b < nb → b_kind (12 + b) = nI (ki b) := fun b hb => by rw [← hop.2.2]; exact e5 b hb
  have hto : ∀ e, e < fs nb + 1 → a_to e = nI (T e) := fun e he => (e6 e he).2.2.1
  have hyt : ∀ e, e < fs nb + 1 → b_to e = cd_cv (T e) := fun e he => (e6 e he).2.2.2.1
  obtain ⟨m, bk, rk, w, ah, me, ba, st, ti, ma, bb, q1, q2, q3, qX, qY⟩ := cx_findBack (f_drafted := f_drafted) (f_blocks := f_blocks) (f_edges := f_edges) (f_probed := f_probed) (f_paths := f_paths) (f_fresh := f_fresh) (f_x := f_x) (f_y := f_y) (f_steps := f_steps) (a_op := a_op) (a_with := a_with) (a_kind := a_kind) (a_target := a_target) (a_from := a_from) (a_to := a_to) (a_exit := a_exit) (a_weights := a_weights) (a_inTree := a_inTree) (a_back := a_back) (a_first := a_first) (a_probes := a_probes) (a_joined := a_joined) (a_order := a_order) (a_ahead := a_ahead) (a_met := a_met) (a_way := a_way) (a_ways := a_ways) (a_adds := a_adds) (a_begins := a_begins) (a_hits := a_hits) (a_cuts := a_cuts) (a_gone := a_gone) (a_runs := a_runs) (a_version := a_version) (a_counts := a_counts) (a_known := a_known) (g_made := g_made) (g_blocks := g_blocks) (g_edges := g_edges) (g_paths := g_paths) (g_many := g_many) (g_lastX := g_lastX) (g_lastY := g_lastY) (g_lastBlocks := g_lastBlocks) (b_op := b_op) (b_number := b_number) (b_kind := b_kind) (b_target := b_target) (b_from := b_from) (b_to := b_to) (b_exit := b_exit) (b_weight := b_weight) (b_firstEdge := b_firstEdge) (b_tree := b_tree) (b_back := b_back) (b_row := b_row) (b_length := b_length) (b_gone := b_gone) (b_done := b_done) (b_went := b_went) (b_cut := b_cut) (b_kept := b_kept) (b_mark := b_mark) (b_way := b_way) (b_tried := b_tried) (b_stack := b_stack) G e1 e3 e4 e7 hto hki e8 hyt
  obtain ⟨pp, ways, adds, begins, p1, p2⟩ := cq_count (f_drafted := f_drafted) (f_blocks := f_blocks) (f_edges := f_edges) (f_probed := f_probed) (f_paths := f_paths) (f_fresh := f_fresh) (f_x := f_x) (f_y := f_y) (f_steps := f_steps) (a_op := a_op) (a_with := a_with) (a_kind := a_kind) (a_target := a_target) (a_from := a_from) (a_to := a_to) (a_exit := a_exit) (a_weights := a_weights) (a_inTree := a_inTree) (a_first := a_first) (a_probes := a_probes) (a_joined := a_joined) (a_order := a_order) (a_ways := a_ways) (a_adds := a_adds) (a_begins := a_begins) (a_hits := a_hits) (a_cuts := a_cuts) (a_gone := a_gone) (a_runs := a_runs) (a_version := a_version) (a_counts := a_counts) (a_known := a_known) (a_way := w) (a_ahead := ah) (a_met := me) (a_back := ba) G q1 e1 e3 e7 hto (fun e he => (q2 e he).1) q3
  obtain ⟨gP, gM, way, tried, stack, row, len, y1, y2⟩ := cy_paths (g_made := g_made) (g_blocks := g_blocks) (g_edges := g_edges) (g_paths := g_paths) (g_many := g_many) (g_lastX := g_lastX) (g_lastY := g_lastY) (g_lastBlocks := g_lastBlocks) (b_op := b_op) (b_number := b_number) (b_kind := b_kind) (b_target := b_target) (b_from := b_from) (b_to := b_to) (b_exit := b_exit) (b_weight := b_weight) (b_firstEdge := b_firstEdge) (b_tree := b_tree) (b_row := b_row) (b_length := b_length) (b_gone := b_gone) (b_done := b_done) (b_went := b_went) (b_cut := b_cut) (b_kept := b_kept) (b_way := b_way) (b_stack := st) (b_tried := ti) (b_mark := ma) (b_back := bb) G q1 e2 e4 hki e8 hyt (fun e he => (q2 e he).2)
  obtain ⟨fPr, jn, ord, inT, pr, h, c, w', mk, bt, h', c', w'', z1, z2, z3⟩ := cl_fin (f_drafted := f_drafted) (f_blocks := f_blocks) (f_edges := f_edges) (f_probed := f_probed) (f_fresh := f_fresh) (f_x := f_x) (f_y := f_y) (f_steps := f_steps) (a_op := a_op) (a_with := a_with) (a_kind := a_kind) (a_target := a_target) (a_from := a_from) (a_to := a_to) (a_exit := a_exit) (a_weights := a_weights) (a_inTree := a_inTree) (a_first := a_first) (a_probes := a_probes) (a_joined := a_joined) (a_order := a_order) (a_hits := a_hits) (a_cuts := a_cuts) (a_gone := a_gone) (a_runs := a_runs) (a_version := a_version) (a_counts := a_counts) (a_known := a_known) (f_paths := nI pp) (a_way := w) (a_ahead := ah) (a_met := me) (a_back := ba) (a_ways := ways) (a_adds := adds) (a_begins := begins)
    (g_made := g_made) (g_blocks := g_blocks) (g_edges := g_edges) (g_lastX := g_lastX) (g_lastY := g_lastY) (g_lastBlocks := g_lastBlocks) (b_op := b_op) (b_number := b_number) (b_kind := b_kind) (b_target := b_target) (b_from := b_from) (b_to := b_to) (b_exit := b_exit) (b_weight := b_weight) (b_firstEdge := b_firstEdge) (b_tree := b_tree) (b_gone := b_gone) (b_done := b_done) (b_went := b_went) (b_cut := b_cut) (b_kept := b_kept) (g_paths := gP) (g_many := gM) (b_stack := stack) (b_tried := tried) (b_mark := ma) (b_back := bb) (b_way := way) (b_row := row) (b_length := len) hD hop hxy hk hV hEE' q2 q1 p1 y1 hw
  exact ⟨_, _, z1, fun post hp => qX _ (p2 _ (z2 _ hp)), fun post hp => qY _ (y2 _ (z3 _ hp))⟩
end
theorem i_vc_build {k : Nat} {u : SX} {v : SY} (I : i_Rel k u v) (hk : k + 6 ≤ 3072) : wpX_build (fun r u' => wpY_build (fun r' v' => r' = r ∧ i_Rel (k + 6) u' v') v) u := by
  revert I
  refine cr_el (P := fun u v => i_Rel k u v → wpX_build (fun r u' => wpY_build (fun r' v' => r' = r ∧ i_Rel (k + 6) u' v') v) u) ?_ u v
  intro f_drafted f_blocks f_edges f_probed f_paths f_fresh f_x f_y f_steps a_op a_with a_kind a_target a_from a_to a_exit a_weights a_inTree a_back a_first a_probes a_joined a_order a_ahead a_met a_way a_ways a_adds a_begins a_hits a_cuts a_gone a_runs a_version a_counts a_known g_made g_blocks g_edges g_paths g_many g_lastX g_lastY g_lastBlocks b_op b_number b_kind b_target b_from b_to b_exit b_weight b_firstEdge b_tree b_back b_row b_length b_gone b_done b_went b_cut b_kept b_mark b_way b_tried b_stack
  intro I
  have I6 := i_up I
  obtain ⟨⟨dr, rfl, rfl, hD⟩, ⟨rfl, rfl, rfl⟩, hxy, hV, hB⟩ := I
  have hD' := hD
  obtain ⟨D1, D2, D3, D4⟩ := hD
  by_cases h0 : dr = 0
  · refine br_t (by rw [h0]; rfl) ?_
    have hle : nI dr ≤ 0 := by rw [h0]; decide
    exact ⟨1, br_t hle (br_t hle (br_t rfl ⟨rfl, I6⟩))⟩
  · refine br_f (nI_ne0 (by omega) (by omega)) ?_
    rcases cb_whole (f_blocks := f_blocks) (f_edges := f_edges) (f_probed := f_probed) (f_paths := f_paths) (f_fresh := f_fresh) (f_x := f_x) (f_y := f_y) (f_steps := f_steps) (a_op := a_op) (a_with := a_with) (a_kind := a_kind) (a_target := a_target) (a_from := a_from) (a_to := a_to) (a_exit := a_exit) (a_weights := a_weights) (a_inTree := a_inTree) (a_back := a_back) (a_first := a_first) (a_probes := a_probes) (a_joined := a_joined) (a_order := a_order) (a_ahead := a_ahead) (a_met := a_met) (a_way := a_way) (a_ways := a_ways) (a_adds := a_adds) (a_begins := a_begins) (a_hits := a_hits) (a_cuts := a_cuts) (a_gone := a_gone) (a_runs := a_runs) (a_version := a_version) (a_counts := a_counts) (a_known := a_known) (f_drafted := nI dr) (g_blocks := g_blocks) (g_edges := g_edges) (g_paths := g_paths) (g_many := g_many) (g_lastX := g_lastX) (g_lastY := g_lastY) (g_lastBlocks := g_lastBlocks) (b_target := b_target) (b_from := b_from) (b_to := b_to) (b_exit := b_exit) (b_weight := b_weight) (b_firstEdge := b_firstEdge) (b_tree := b_tree) (b_back := b_back) (b_row := b_row) (b_length := b_length) (b_gone := b_gone) (b_done := b_done) (b_went := b_went) (b_cut := b_cut) (b_kept := b_kept) (b_mark := b_mark) (b_way := b_way) (b_tried := b_tried) (b_stack := b_stack) (g_made := nI dr) (b_op := a_op) (b_number := a_with) (b_kind := a_kind) (dr := dr) rfl rfl (by omega) rfl hD' dr 0 (by omega) with ⟨w1, w2, w3⟩ | ⟨w2, w3⟩
    · let ki : Nat → Nat := fun b => (a_kind b).toNatClampNeg
      have hki : ∀ b, b < dr → ki b ≤ 5 ∧ a_kind b = nI (ki b) := by
        intro b hb
        obtain ⟨x, x1, x2⟩ := D3 b (by omega)
        have : ki b = x := by show (a_kind b).toNatClampNeg = x; rw [x2]; exact nI_clamp (by omega)
        rw [this]; exact ⟨x1, x2⟩
      have ht : ∀ b j, b < dr → j < cg_ex (ki b) → ∃ t, (ki b = 0 ∧ t = 12) ∨ (0 < ki b ∧ t < dr ∧ a_target (3 * b + j) = nI t ∧ b_target (3 * b + j) = nI t) := by
        intro b j hb hj
        obtain ⟨x1, x2⟩ := hki b hb
        by_cases hz : ki b = 0
        · exact ⟨12, Or.inl ⟨hz, rfl⟩⟩
        · obtain ⟨t, t1, t2, t3⟩ := D4 b (ki b) (by omega) x2 (by omega) x1 j hj
          have hlt := w1 b (by omega) hb (ki b) x2 (by omega) x1 j hj
          rw [t2, nI_ltI (by omega) (by omega)] at hlt
          exact ⟨t, Or.inr ⟨by omega, hlt, t2, t3⟩⟩
      clear_value ki
      obtain ⟨F, T, op, wi, kd, fi, yf, aF, aT, aE, aW, bF, bT, bE, bW, q1, q2, q3, q4, q5⟩ := cb_89 (f_probed := f_probed) (f_paths := f_paths) (f_fresh := f_fresh) (f_x := f_x) (f_y := f_y) (f_steps := f_steps) (a_target := a_target) (a_inTree := a_inTree) (a_back := a_back) (a_probes := a_probes) (a_joined := a_joined) (a_order := a_order) (a_ahead := a_ahead) (a_met := a_met) (a_way := a_way) (a_ways := a_ways) (a_adds := a_adds) (a_begins := a_begins) (a_hits := a_hits) (a_cuts := a_cuts) (a_gone := a_gone) (a_runs := a_runs) (a_version := a_version) (a_counts := a_counts) (a_known := a_known) (f_drafted := nI dr) (f_blocks := nI dr) (g_paths := g_paths) (g_many := g_many) (g_lastX := g_lastX) (g_lastY := g_lastY) (g_lastBlocks := g_lastBlocks) (b_target := b_target) (b_tree := b_tree) (b_back := b_back) (b_row := b_row) (b_length := b_length) (b_gone := b_gone) (b_done := b_done) (b_went := b_went) (b_cut := b_cut) (b_kept := b_kept) (b_mark := b_mark) (b_way := b_way) (b_tried := b_tried) (b_stack := b_stack) (g_made := nI dr) (g_blocks := nI dr) (nb := dr) (ki := ki) (kind0 := a_kind) D1 rfl rfl hki ht dr 0 (fun _ => 0) (fun _ => 0) a_op a_with a_kind a_first b_firstEdge a_from a_to a_exit a_weights b_from b_to b_exit b_weight (by omega)
        ⟨D2, D3, fun _ _ => rfl, fun c hc => by omega, fun c hc => by omega⟩ (fun x hx => absurd hx (Nat.not_lt_zero _)) (fun b j _ _ h => absurd h (Nat.not_lt_zero _))
      obtain ⟨o1, o2, o3, o4, o5⟩ := q1
      have hf3 := cb_fs3 ki dr
      have hEI := cb_EIs (b := 12) (t := 0) (y := 0) q2
      have hsm : ∀ b j, b < dr → j < cg_ex (ki b) → cb_fs ki b + j < cb_fs ki dr := by
        intro b j hb hj
        have h1 := cb_fsm ki (a := b + 1) dr (by omega)
        have h2 : cb_fs ki (b + 1) = cb_fs ki b + cg_ex (ki b) := rfl
        omega
      have G : cg_GR dr ki (cb_fs ki) (cs_u F (cb_fs ki dr) 12) (cs_u T (cb_fs ki dr) 0) := by
        refine ⟨by omega, D1, rfl, fun b hb => ⟨(hki b hb).1, rfl⟩, fun b j hb hj => ?_, cs_us, cs_us⟩
        have := hsm b j hb hj
        rw [cs_un (by omega), cs_un (by omega)]
        exact q3 b j hb hj this
      obtain ⟨u', v', m1, m2, m3⟩ := cb_mid (f_probed := f_probed) (f_paths := f_paths) (f_fresh := f_fresh) (a_target := a_target) (a_inTree := a_inTree) (a_back := a_back) (a_probes := a_probes) (a_joined := a_joined) (a_order := a_order) (a_ahead := a_ahead) (a_met := a_met) (a_way := a_way) (a_ways := a_ways) (a_adds := a_adds) (a_begins := a_begins) (a_hits := a_hits) (a_cuts := a_cuts) (a_gone := a_gone) (a_runs := a_runs) (a_version := a_version) (a_counts := a_counts) (a_known := a_known) (f_drafted := nI dr) (f_blocks := nI dr) (f_edges := nI (cb_fs ki dr + 1)) (f_x := 0) (f_y := 0) (f_steps := 0) (a_op := op) (a_with := wi) (a_kind := kd) (a_first := upd fi dr (nI (cb_fs ki dr)))
        (a_from := upd aF (cb_fs ki dr) (nI 12)) (a_to := upd aT (cb_fs ki dr) (nI 0)) (a_exit := upd aE (cb_fs ki dr) 0) (a_weights := upd aW (cb_fs ki dr) 0)
        (g_paths := g_paths) (g_many := g_many) (b_target := b_target) (b_tree := b_tree) (b_back := b_back) (b_row := b_row) (b_length := b_length) (b_gone := b_gone) (b_done := b_done) (b_went := b_went) (b_cut := b_cut) (b_kept := b_kept) (b_mark := b_mark) (b_way := b_way) (b_tried := b_tried) (b_stack := b_stack) (g_made := nI dr) (g_blocks := nI dr) (g_edges := nI (cb_fs ki dr + 1)) (g_lastX := 0) (g_lastY := 0) (g_lastBlocks := 0) (b_op := op) (b_number := wi) (b_kind := kd) (b_firstEdge := yf)
        (b_from := upd bF (cb_fs ki dr) (cd_cv 12)) (b_to := upd bT (cb_fs ki dr) (cd_cv 0)) (b_exit := upd bE (cb_fs ki dr) 0) (b_weight := upd bW (cb_fs ki dr) 0) (k := k)
        ⟨dr, rfl, rfl, D1, o1, o2, fun b x hb hkb hx0 hx5 j hj => D4 b x hb (by rw [← o3 b hb]; exact hkb) hx0 hx5 j hj⟩ ⟨rfl, rfl, rfl⟩ ⟨rfl, rfl, rfl⟩ hk hV
        ⟨G, ⟨rfl, rfl, rfl, rfl⟩, o4, fun e he => by
            obtain ⟨a1, a2, a3, a4, a5, a6⟩ := hEI e he
            exact ⟨a1, a2, a3, a4, a5⟩, fun b hb => by
            by_cases e : b = dr
            · rw [e, pk_us]
            · rw [pk_un e]; exact (o5 b (by omega)).1, fun b hb => (o5 b hb).2⟩
        (fun e he => (hEI e he).2.2.2.2.2)
      refine Exists.intro _ (w2 _ (⟨dr + 1, q4 _ (br_t (nI_le (Nat.le_refl _) (by omega)) ⟨vp_in_nI (by omega) (by omega), nm_r (cd_up rfl (by omega) (cd_nb (by omega))) (cb_addX (e := cb_fs ki dr) (b := 12) (t := 0) (j := 0) (by omega) (by omega) (by omega) (by omega) rfl rfl rfl rfl _ (m2 (fun r u' => wpY_build (fun r' v' => r' = r ∧ i_Rel (k + 6) u' v') (nI dr, g_blocks, g_edges, g_paths, g_many, g_lastX, g_lastY, g_lastBlocks, a_op, a_with, a_kind, b_target, b_from, b_to, b_exit, b_weight, b_firstEdge, b_tree, b_back, b_row, b_length, b_gone, b_done, b_went, b_cut, b_kept, b_mark, b_way, b_tried, b_stack)) ?_))⟩)⟩))
      refine Exists.intro _ (w3 _ (br_f (by decide) (⟨dr + 1, q5 _ (br_t (nI_le (Nat.le_refl _) (by omega)) (cb_addY (e := cb_fs ki dr) (by omega) (q0 := cd_cv 12) (q1 := 0) (q2 := cd_cv 0) rfl rfl rfl rfl _ (m3 (fun r' v' => r' = nI (cb_fs ki dr + 1) ∧ i_Rel (k + 6) u' v') ?_)))⟩)))
      exact ⟨rfl, m1⟩
    · exact ⟨_, w2 _ ⟨_, w3 _ (br_t rfl ⟨rfl, I6⟩)⟩⟩
end
section
/-! weight, and the methods without loops -/
theorem i_vc0 : wpX_init (fun u => wpY_init (fun v => i_Rel 0 u v)) := by
  refine ⟨⟨0, rfl, rfl, by omega, fun i _ => ⟨0, by omega, rfl⟩, fun i _ => ⟨0, by omega, rfl⟩, fun b k _ hk h0 h5 => ?_⟩, ⟨rfl, rfl, rfl⟩, ⟨rfl, rfl, rfl⟩, ⟨fun _ => 0, Nat.le_refl _, fun i _ => ⟨rfl, Nat.le_refl _⟩⟩, Or.inl ⟨rfl, rfl, rfl, rfl, rfl, rfl, rfl⟩⟩
  have := cd_im (a := 0) (b := k) hk (by omega) (by omega)
  omega
theorem i_vc_weight {k : Nat} {u : SX} {v : SY} (I : i_Rel k u v) (hk : k + 6 ≤ 3072) (v1 : Int32) (v2 : Int32) : wpX_weight (fun r u' => wpY_weight (fun r' v' => r' = r ∧ i_Rel (k + 6) u' v') v v1 v2) u v1 v2 := by
  revert I
  refine cr_el (P := fun u v => i_Rel k u v → wpX_weight (fun r u' => wpY_weight (fun r' v' => r' = r ∧ i_Rel (k + 6) u' v') v v1 v2) u v1 v2) ?_ u v
  intro f_drafted f_blocks f_edges f_probed f_paths f_fresh f_x f_y f_steps a_op a_with a_kind a_target a_from a_to a_exit a_weights a_inTree a_back a_first a_probes a_joined a_order a_ahead a_met a_way a_ways a_adds a_begins a_hits a_cuts a_gone a_runs a_version a_counts a_known g_made g_blocks g_edges g_paths g_many g_lastX g_lastY g_lastBlocks b_op b_number b_kind b_target b_from b_to b_exit b_weight b_firstEdge b_tree b_back b_row b_length b_gone b_done b_went b_cut b_kept b_mark b_way b_tried b_stack
  intro I
  have I6 := i_up I
  obtain ⟨hD, hop, hxy, hV, hB⟩ := I
  rcases hB with ⟨b1, b2, b3, b4, b5, b6, b7⟩ | ⟨nb, ki, fs, F, T, bk, m, rk, tr, hEE, hK, hDF, hPX, hPY, hw, hT, hS, hS2, hfr⟩
  · subst b2 b5
    rcases cw_in v1 0 (by omega) (M := 0 - 1) (by decide) with ⟨j, hj, _⟩ | ⟨_, hX, hY⟩
    · omega
    · unfold wpX_weight; refine hX _ ?_; refine br_t rfl ?_
      unfold wpY_weight; refine hY _ ?_; refine br_t rfl ?_
      exact ⟨rfl, I6⟩
  · have hEE' := hEE
    obtain ⟨G, ⟨e1, e2, e3, e4⟩, e5, e6, e7, e8⟩ := hEE
    have hne := cg_ne G
    subst e3 e4
    rcases cw_in v1 (fs nb + 1) (by omega) (cw_pM (n := fs nb + 1) (by omega)) with ⟨j, hj, rfl, hX, hY⟩ | ⟨_, hX, hY⟩
    · obtain ⟨fPr, jn, ord, inT, pr, h, c, w', mk, bt, h', c', w'', z1, z2, z3⟩ := cl_fin (f_drafted := f_drafted) (f_blocks := f_blocks) (f_probed := f_probed) (f_paths := f_paths) (f_fresh := f_fresh) (f_x := f_x) (f_y := f_y) (f_steps := f_steps) (a_op := a_op) (a_with := a_with) (a_kind := a_kind) (a_target := a_target) (a_from := a_from) (a_to := a_to) (a_exit := a_exit) (a_inTree := a_inTree) (a_back := a_back) (a_first := a_first) (a_probes := a_probes) (a_joined := a_joined) (a_order := a_order) (a_ahead := a_ahead) (a_met := a_met) (a_way := a_way) (a_ways := a_ways) (a_adds := a_adds) (a_begins := a_begins) (a_hits := a_hits) (a_cuts := a_cuts) (a_gone := a_gone) (a_runs := a_runs) (a_version := a_version) (a_counts := a_counts) (a_known := a_known) (f_edges := nI (fs nb + 1)) (a_weights := upd a_weights j v2) (g_made := g_made) (g_blocks := g_blocks) (g_paths := g_paths) (g_many := g_many) (g_lastX := g_lastX) (g_lastY := g_lastY) (g_lastBlocks := g_lastBlocks) (b_op := b_op) (b_number := b_number) (b_kind := b_kind) (b_target := b_target) (b_from := b_from) (b_to := b_to) (b_exit := b_exit) (b_firstEdge := b_firstEdge) (b_tree := b_tree) (b_back := b_back) (b_row := b_row) (b_length := b_length) (b_gone := b_gone) (b_done := b_done) (b_went := b_went) (b_cut := b_cut) (b_kept := b_kept) (b_mark := b_mark) (b_way := b_way) (b_tried := b_tried) (b_stack := b_stack) (g_edges := nI (fs nb + 1)) (b_weight := upd b_weight j v2) hD hop hxy hk hV hEE' hK hDF hPX hPY (fun e he => by
        by_cases ex : e = j
        · rw [ex, pk_us, pk_us]
        · rw [pk_un ex, pk_un ex]; exact hw e he)
      unfold wpX_weight; refine hX _ ?_; refine br_f (by decide) ⟨vp_in_nI (by omega) (by omega), nm_r (cd_up rfl (by omega) rfl) (z2 _ ?_)⟩
      unfold wpY_weight; refine hY _ ?_; refine br_f (by decide) ⟨vp_in_nI (by omega) (by omega), nm_r (cd_up rfl (by omega) rfl) (z3 _ ?_)⟩
      exact ⟨rfl, z1⟩
    · unfold wpX_weight; refine hX _ ?_; refine br_t rfl ?_
      unfold wpY_weight; refine hY _ ?_; refine br_t rfl ?_
      exact ⟨rfl, I6⟩
theorem i_vc_block {k : Nat} {u : SX} {v : SY} (I : i_Rel k u v) (hk : k + 6 ≤ 3072) (v1 : Int32) (v2 : Int32) : wpX_block (fun r u' => wpY_block (fun r' v' => r' = r ∧ i_Rel (k + 6) u' v') v v1 v2) u v1 v2 := by
  revert I
  refine cr_el (P := fun u v => i_Rel k u v → wpX_block (fun r u' => wpY_block (fun r' v' => r' = r ∧ i_Rel (k + 6) u' v') v v1 v2) u v1 v2) ?_ u v
  intro f_drafted f_blocks f_edges f_probed f_paths f_fresh f_x f_y f_steps a_op a_with a_kind a_target a_from a_to a_exit a_weights a_inTree a_back a_first a_probes a_joined a_order a_ahead a_met a_way a_ways a_adds a_begins a_hits a_cuts a_gone a_runs a_version a_counts a_known g_made g_blocks g_edges g_paths g_many g_lastX g_lastY g_lastBlocks b_op b_number b_kind b_target b_from b_to b_exit b_weight b_firstEdge b_tree b_back b_row b_length b_gone b_done b_went b_cut b_kept b_mark b_way b_tried b_stack
  intro I
  have I6 := i_up I
  obtain ⟨⟨dr, rfl, rfl, D1, D2, D3, D4⟩, ⟨rfl, rfl, rfl⟩, hxy, _⟩ := I
  rcases cw_in v1 8 (by omega) (M := 7) (by decide) with ⟨j, hj, rfl, hX, hY⟩ | ⟨_, hX, hY⟩
  · unfold wpX_block; refine hX _ ?_; refine br_f (by decide) ?_
    by_cases h12 : dr = 12
    · subst h12
      refine br_t rfl ?_
      unfold wpY_block; refine hY _ ?_; refine br_f (by decide) (br_t rfl ?_)
      exact ⟨rfl, I6⟩
    · have hn : ¬ nI dr = 12 := fun h => h12 (cd_im (b := 12) h (by omega) (by omega))
      refine br_f hn ⟨vp_in_nI (by omega) (by omega), nm_r (cd_up rfl (by omega) (cd_nb (by omega))) ⟨vp_in_nI (by omega) (by omega), nm_r (cd_up rfl (by omega) rfl) ⟨vp_in_nI (by omega) (by omega), nm_r (cd_up rfl (by omega) (cd_nb' (n := 0) (by omega))) (nm_r (nI_1 dr) ?_)⟩⟩⟩
      unfold wpY_block; refine hY _ ?_; refine br_f (by decide) (br_f hn ⟨vp_in_nI (by omega) (by omega), nm_r (cd_up rfl (by omega) rfl) ⟨vp_in_nI (by omega) (by omega), nm_r (cd_up rfl (by omega) rfl) ⟨vp_in_nI (by omega) (by omega), nm_r (cd_up rfl (by omega) rfl) (nm_r (nI_1 dr) ?_)⟩⟩⟩)
      refine ⟨nI_pred dr, ?_⟩
      obtain ⟨_, _, _, hV, hB⟩ := I6
      refine ⟨⟨dr + 1, rfl, rfl, by omega, fun i hi => ?_, fun i hi => ?_, fun b x hb hx h0 h5 y hy => ?_⟩, ⟨rfl, rfl, rfl⟩, hxy, hV, ?_⟩
      · by_cases e : i = dr
        · rw [e, pk_us]; exact ⟨j, by omega, rfl⟩
        · rw [pk_un e]; exact D2 i hi
      · by_cases e : i = dr
        · rw [e, pk_us]; exact ⟨0, by omega, rfl⟩
        · rw [pk_un e]; exact D3 i hi
      · by_cases e : b = dr
        · rw [e, pk_us] at hx
          have := cd_im (a := 0) (b := x) hx (by omega) (by omega)
          omega
        · rw [pk_un e] at hx; exact D4 b x hb hx h0 h5 y hy
      · rcases hB with hB | ⟨nb, ki, fs, F, T, bk, m, rk, tr, ⟨G, e4, e5, e6⟩, hR⟩
        · exact Or.inl hB
        · refine Or.inr ⟨nb, ki, fs, F, T, bk, m, rk, tr, ⟨G, e4, fun b hb => ?_, e6⟩, hR⟩
          rw [pk_un (by omega)]; exact e5 b hb
  · unfold wpX_block; refine hX _ ?_; refine br_t rfl ?_
    unfold wpY_block; refine hY _ ?_; refine br_t rfl ?_
    exact ⟨rfl, I6⟩
theorem i_vc_clear {k : Nat} {u : SX} {v : SY} (I : i_Rel k u v) (hk : k + 6 ≤ 3072) : wpX_clear (fun r u' => wpY_clear (fun r' v' => r' = r ∧ i_Rel (k + 6) u' v') v) u := by
  revert I
  refine cr_el (P := fun u v => i_Rel k u v → wpX_clear (fun r u' => wpY_clear (fun r' v' => r' = r ∧ i_Rel (k + 6) u' v') v) u) ?_ u v
  intro f_drafted f_blocks f_edges f_probed f_paths f_fresh f_x f_y f_steps a_op a_with a_kind a_target a_from a_to a_exit a_weights a_inTree a_back a_first a_probes a_joined a_order a_ahead a_met a_way a_ways a_adds a_begins a_hits a_cuts a_gone a_runs a_version a_counts a_known g_made g_blocks g_edges g_paths g_many g_lastX g_lastY g_lastBlocks b_op b_number b_kind b_target b_from b_to b_exit b_weight b_firstEdge b_tree b_back b_row b_length b_gone b_done b_went b_cut b_kept b_mark b_way b_tried b_stack
  intro I
  obtain ⟨⟨dr, d1, d2, D1, D2, D3, D4⟩, hop, hxy, hV, hB⟩ := i_up I
  refine ⟨d2.trans d1.symm, ⟨0, rfl, rfl, by omega, D2, D3, D4⟩, hop, hxy, hV, hB⟩
theorem i_vc_last {k : Nat} {u : SX} {v : SY} (I : i_Rel k u v) (hk : k + 6 ≤ 3072) (v1 : Int32) : wpX_last (fun r => wpY_last (fun r' => r' = r ∧ i_Rel (k + 6) u v) v v1) u v1 := by
  revert I
  refine cr_el (P := fun u v => i_Rel k u v → wpX_last (fun r => wpY_last (fun r' => r' = r ∧ i_Rel (k + 6) u v) v v1) u v1) ?_ u v
  intro f_drafted f_blocks f_edges f_probed f_paths f_fresh f_x f_y f_steps a_op a_with a_kind a_target a_from a_to a_exit a_weights a_inTree a_back a_first a_probes a_joined a_order a_ahead a_met a_way a_ways a_adds a_begins a_hits a_cuts a_gone a_runs a_version a_counts a_known g_made g_blocks g_edges g_paths g_many g_lastX g_lastY g_lastBlocks b_op b_number b_kind b_target b_from b_to b_exit b_weight b_firstEdge b_tree b_back b_row b_length b_gone b_done b_went b_cut b_kept b_mark b_way b_tried b_stack
  intro I
  have I6 := i_up I
  obtain ⟨_, _, ⟨h1, h2, h3⟩, _⟩ := I
  by_cases a0 : v1 = 0
  · exact br_t a0 (br_t a0 ⟨h1.symm, I6⟩)
  · by_cases a1 : v1 = 1
    · exact br_f a0 (br_t a1 (br_f a0 (br_t a1 ⟨h2.symm, I6⟩)))
    · by_cases a2 : v1 = 2
      · exact br_f a0 (br_f a1 (br_t a2 (br_f a0 (br_f a1 (br_t a2 ⟨h3.symm, I6⟩)))))
      · exact br_f a0 (br_f a1 (br_f a2 (br_f a0 (br_f a1 (br_f a2 ⟨rfl, I6⟩)))))
end
section
/-! exits -/
def ce_ok (us i : Nat) (x : Int32) : Prop := i < us → ∃ t, t < 12 ∧ x = nI t
section
variable {f_drafted f_blocks f_edges f_probed f_paths f_fresh f_x f_y f_steps : Int32} {a_op a_with a_kind a_target a_from a_to a_exit a_weights a_inTree a_back a_first a_probes a_joined a_order a_ahead a_met a_way a_ways a_adds a_begins a_hits a_cuts a_gone a_runs a_version a_counts a_known : Nat → Int32} {g_made g_blocks g_edges g_paths g_many g_lastX g_lastY g_lastBlocks : Int32} {b_op b_number b_kind b_target b_from b_to b_exit b_weight b_firstEdge b_tree b_back b_row b_length b_gone b_done b_went b_cut b_kept b_mark b_way b_tried b_stack : Nat → Int32}
theorem ce_3 {us : Nat} (hus : us ≤ 3) (x1 x2 x3 x4 x5 : Int32) :
    (ce_ok us 2 x5 ∧ (∀ post, wX_exits_84 post x1 x2 x3 x4 x5 (nI us) f_drafted f_blocks f_edges f_probed f_paths f_fresh f_x f_y f_steps a_op a_with a_kind a_target a_from a_to a_exit a_weights a_inTree a_back a_first a_probes a_joined a_order a_ahead a_met a_way a_ways a_adds a_begins a_hits a_cuts a_gone a_runs a_version a_counts a_known → wX_exits_66 post x1 x2 x3 x4 x5 (nI us) f_drafted f_blocks f_edges f_probed f_paths f_fresh f_x f_y f_steps a_op a_with a_kind a_target a_from a_to a_exit a_weights a_inTree a_back a_first a_probes a_joined a_order a_ahead a_met a_way a_ways a_adds a_begins a_hits a_cuts a_gone a_runs a_version a_counts a_known) ∧ (∀ post, wY_exits_90 post x1 x2 x3 x4 x5 g_made g_blocks g_edges g_paths g_many g_lastX g_lastY g_lastBlocks b_op b_number b_kind b_target b_from b_to b_exit b_weight b_firstEdge b_tree b_back b_row b_length b_gone b_done b_went b_cut b_kept b_mark b_way b_tried b_stack → wY_exits_71 post x1 x2 x3 x4 x5 (nI us) g_made g_blocks g_edges g_paths g_many g_lastX g_lastY g_lastBlocks b_op b_number b_kind b_target b_from b_to b_exit b_weight b_firstEdge b_tree b_back b_row b_length b_gone b_done b_went b_cut b_kept b_mark b_way b_tried b_stack)) ∨
    ((∀ post : Int32 → SX → Prop, post 0 (f_drafted, f_blocks, f_edges, f_probed, f_paths, f_fresh, f_x, f_y, f_steps, a_op, a_with, a_kind, a_target, a_from, a_to, a_exit, a_weights, a_inTree, a_back, a_first, a_probes, a_joined, a_order, a_ahead, a_met, a_way, a_ways, a_adds, a_begins, a_hits, a_cuts, a_gone, a_runs, a_version, a_counts, a_known) → wX_exits_66 post x1 x2 x3 x4 x5 (nI us) f_drafted f_blocks f_edges f_probed f_paths f_fresh f_x f_y f_steps a_op a_with a_kind a_target a_from a_to a_exit a_weights a_inTree a_back a_first a_probes a_joined a_order a_ahead a_met a_way a_ways a_adds a_begins a_hits a_cuts a_gone a_runs a_version a_counts a_known) ∧ (∀ post : Int32 → SY → Prop, post 0 (g_made, g_blocks, g_edges, g_paths, g_many, g_lastX, g_lastY, g_lastBlocks, b_op, b_number, b_kind, b_target, b_from, b_to, b_exit, b_weight, b_firstEdge, b_tree, b_back, b_row, b_length, b_gone, b_done, b_went, b_cut, b_kept, b_mark, b_way, b_tried, b_stack) → wY_exits_71 post x1 x2 x3 x4 x5 (nI us) g_made g_blocks g_edges g_paths g_many g_lastX g_lastY g_lastBlocks b_op b_number b_kind b_target b_from b_to b_exit b_weight b_firstEdge b_tree b_back b_row b_length b_gone b_done b_went b_cut b_kept b_mark b_way b_tried b_stack)) := by
  by_cases h : us ≤ 2
  · have hl : nI us ≤ 2 := nI_le (b := 2) h (by omega)
    exact Or.inl ⟨fun h' => by omega, fun post hp => br_t hl hp, fun post hp => br_t hl hp⟩
  · have hl : ¬ nI us ≤ 2 := nI_ge (a := 2) (by omega) (by omega)
    rcases cw_in x5 12 (by omega) (M := 11) (by decide) with ⟨j, hj, e, hX, hY⟩ | ⟨_, hX, hY⟩
    · exact Or.inl ⟨fun _ => ⟨j, hj, e⟩, fun post hp => br_f hl (hX _ (br_f (by decide) hp)), fun post hp => br_f hl (hY _ (br_f (by decide) hp))⟩
    · exact Or.inr ⟨fun post hp => br_f hl (hX _ (br_t rfl hp)), fun post hp => br_f hl (hY _ (br_t rfl hp))⟩
theorem ce_2 {us : Nat} (hus : us ≤ 3) (x1 x2 x3 x4 x5 : Int32) :
    (ce_ok us 1 x4 ∧ ce_ok us 2 x5 ∧ (∀ post, wX_exits_84 post x1 x2 x3 x4 x5 (nI us) f_drafted f_blocks f_edges f_probed f_paths f_fresh f_x f_y f_steps a_op a_with a_kind a_target a_from a_to a_exit a_weights a_inTree a_back a_first a_probes a_joined a_order a_ahead a_met a_way a_ways a_adds a_begins a_hits a_cuts a_gone a_runs a_version a_counts a_known → wX_exits_50 post x1 x2 x3 x4 x5 (nI us) f_drafted f_blocks f_edges f_probed f_paths f_fresh f_x f_y f_steps a_op a_with a_kind a_target a_from a_to a_exit a_weights a_inTree a_back a_first a_probes a_joined a_order a_ahead a_met a_way a_ways a_adds a_begins a_hits a_cuts a_gone a_runs a_version a_counts a_known) ∧ (∀ post, wY_exits_90 post x1 x2 x3 x4 x5 g_made g_blocks g_edges g_paths g_many g_lastX g_lastY g_lastBlocks b_op b_number b_kind b_target b_from b_to b_exit b_weight b_firstEdge b_tree b_back b_row b_length b_gone b_done b_went b_cut b_kept b_mark b_way b_tried b_stack → wY_exits_54 post x1 x2 x3 x4 x5 (nI us) g_made g_blocks g_edges g_paths g_many g_lastX g_lastY g_lastBlocks b_op b_number b_kind b_target b_from b_to b_exit b_weight b_firstEdge b_tree b_back b_row b_length b_gone b_done b_went b_cut b_kept b_mark b_way b_tried b_stack)) ∨
    ((∀ post : Int32 → SX → Prop, post 0 (f_drafted, f_blocks, f_edges, f_probed, f_paths, f_fresh, f_x, f_y, f_steps, a_op, a_with, a_kind, a_target, a_from, a_to, a_exit, a_weights, a_inTree, a_back, a_first, a_probes, a_joined, a_order, a_ahead, a_met, a_way, a_ways, a_adds, a_begins, a_hits, a_cuts, a_gone, a_runs, a_version, a_counts, a_known) → wX_exits_50 post x1 x2 x3 x4 x5 (nI us) f_drafted f_blocks f_edges f_probed f_paths f_fresh f_x f_y f_steps a_op a_with a_kind a_target a_from a_to a_exit a_weights a_inTree a_back a_first a_probes a_joined a_order a_ahead a_met a_way a_ways a_adds a_begins a_hits a_cuts a_gone a_runs a_version a_counts a_known) ∧ (∀ post : Int32 → SY → Prop, post 0 (g_made, g_blocks, g_edges, g_paths, g_many, g_lastX, g_lastY, g_lastBlocks, b_op, b_number, b_kind, b_target, b_from, b_to, b_exit, b_weight, b_firstEdge, b_tree, b_back, b_row, b_length, b_gone, b_done, b_went, b_cut, b_kept, b_mark, b_way, b_tried, b_stack) → wY_exits_54 post x1 x2 x3 x4 x5 (nI us) g_made g_blocks g_edges g_paths g_many g_lastX g_lastY g_lastBlocks b_op b_number b_kind b_target b_from b_to b_exit b_weight b_firstEdge b_tree b_back b_row b_length b_gone b_done b_went b_cut b_kept b_mark b_way b_tried b_stack)) := by
  have h3 := ce_3 (f_drafted := f_drafted) (f_blocks := f_blocks) (f_edges := f_edges) (f_probed := f_probed) (f_paths := f_paths) (f_fresh := f_fresh) (f_x := f_x) (f_y := f_y) (f_steps := f_steps) (a_op := a_op) (a_with := a_with) (a_kind := a_kind) (a_target := a_target) (a_from := a_from) (a_to := a_to) (a_exit := a_exit) (a_weights := a_weights) (a_inTree := a_inTree) (a_back := a_back) (a_first := a_first) (a_probes := a_probes) (a_joined := a_joined) (a_order := a_order) (a_ahead := a_ahead) (a_met := a_met) (a_way := a_way) (a_ways := a_ways) (a_adds := a_adds) (a_begins := a_begins) (a_hits := a_hits) (a_cuts := a_cuts) (a_gone := a_gone) (a_runs := a_runs) (a_version := a_version) (a_counts := a_counts) (a_known := a_known) (g_made := g_made) (g_blocks := g_blocks) (g_edges := g_edges) (g_paths := g_paths) (g_many := g_many) (g_lastX := g_lastX) (g_lastY := g_lastY) (g_lastBlocks := g_lastBlocks) (b_op := b_op) (b_number := b_number) (b_kind := b_kind) (b_target := b_target) (b_from := b_from) (b_to := b_to) (b_exit := b_exit) (b_weight := b_weight) (b_firstEdge := b_firstEdge) (b_tree := b_tree) (b_back := b_back) (b_row := b_row) (b_length := b_length) (b_gone := b_gone) (b_done := b_done) (b_went := b_went) (b_cut := b_cut) (b_kept := b_kept) (b_mark := b_mark) (b_way := b_way) (b_tried := b_tried) (b_stack := b_stack) hus x1 x2 x3 x4 x5
  by_cases h : us ≤ 1
  · have hl : nI us ≤ 1 := nI_le (b := 1) h (by omega)
    rcases h3 with ⟨q1, q2, q3⟩ | ⟨q2, q3⟩
    · exact Or.inl ⟨fun h' => by omega, q1, fun post hp => br_t hl (q2 post hp), fun post hp => br_t hl (q3 post hp)⟩
    · exact Or.inr ⟨fun post hp => br_t hl (q2 post hp), fun post hp => br_t hl (q3 post hp)⟩
  · have hl : ¬ nI us ≤ 1 := nI_ge (a := 1) (by omega) (by omega)
    rcases cw_in x4 12 (by omega) (M := 11) (by decide) with ⟨j, hj, e, hX, hY⟩ | ⟨_, hX, hY⟩
    · rcases h3 with ⟨q1, q2, q3⟩ | ⟨q2, q3⟩
      · exact Or.inl ⟨fun _ => ⟨j, hj, e⟩, q1, fun post hp => br_f hl (hX _ (br_f (by decide) (q2 post hp))), fun post hp => br_f hl (hY _ (br_f (by decide) (q3 post hp)))⟩
      · exact Or.inr ⟨fun post hp => br_f hl (hX _ (br_f (by decide) (q2 post hp))), fun post hp => br_f hl (hY _ (br_f (by decide) (q3 post hp)))⟩
    · exact Or.inr ⟨fun post hp => br_f hl (hX _ (br_t rfl hp)), fun post hp => br_f hl (hY _ (br_t rfl hp))⟩
theorem ce_1 {us : Nat} (hus : us ≤ 3) (x1 x2 x3 x4 x5 : Int32) :
    ((ce_ok us 0 x3 ∧ ce_ok us 1 x4 ∧ ce_ok us 2 x5) ∧ (∀ post, wX_exits_84 post x1 x2 x3 x4 x5 (nI us) f_drafted f_blocks f_edges f_probed f_paths f_fresh f_x f_y f_steps a_op a_with a_kind a_target a_from a_to a_exit a_weights a_inTree a_back a_first a_probes a_joined a_order a_ahead a_met a_way a_ways a_adds a_begins a_hits a_cuts a_gone a_runs a_version a_counts a_known → wX_exits_34 post x1 x2 x3 x4 x5 (nI us) f_drafted f_blocks f_edges f_probed f_paths f_fresh f_x f_y f_steps a_op a_with a_kind a_target a_from a_to a_exit a_weights a_inTree a_back a_first a_probes a_joined a_order a_ahead a_met a_way a_ways a_adds a_begins a_hits a_cuts a_gone a_runs a_version a_counts a_known) ∧ (∀ post, wY_exits_90 post x1 x2 x3 x4 x5 g_made g_blocks g_edges g_paths g_many g_lastX g_lastY g_lastBlocks b_op b_number b_kind b_target b_from b_to b_exit b_weight b_firstEdge b_tree b_back b_row b_length b_gone b_done b_went b_cut b_kept b_mark b_way b_tried b_stack → wY_exits_37 post x1 x2 x3 x4 x5 (nI us) g_made g_blocks g_edges g_paths g_many g_lastX g_lastY g_lastBlocks b_op b_number b_kind b_target b_from b_to b_exit b_weight b_firstEdge b_tree b_back b_row b_length b_gone b_done b_went b_cut b_kept b_mark b_way b_tried b_stack)) ∨
    ((∀ post : Int32 → SX → Prop, post 0 (f_drafted, f_blocks, f_edges, f_probed, f_paths, f_fresh, f_x, f_y, f_steps, a_op, a_with, a_kind, a_target, a_from, a_to, a_exit, a_weights, a_inTree, a_back, a_first, a_probes, a_joined, a_order, a_ahead, a_met, a_way, a_ways, a_adds, a_begins, a_hits, a_cuts, a_gone, a_runs, a_version, a_counts, a_known) → wX_exits_34 post x1 x2 x3 x4 x5 (nI us) f_drafted f_blocks f_edges f_probed f_paths f_fresh f_x f_y f_steps a_op a_with a_kind a_target a_from a_to a_exit a_weights a_inTree a_back a_first a_probes a_joined a_order a_ahead a_met a_way a_ways a_adds a_begins a_hits a_cuts a_gone a_runs a_version a_counts a_known) ∧ (∀ post : Int32 → SY → Prop, post 0 (g_made, g_blocks, g_edges, g_paths, g_many, g_lastX, g_lastY, g_lastBlocks, b_op, b_number, b_kind, b_target, b_from, b_to, b_exit, b_weight, b_firstEdge, b_tree, b_back, b_row, b_length, b_gone, b_done, b_went, b_cut, b_kept, b_mark, b_way, b_tried, b_stack) → wY_exits_37 post x1 x2 x3 x4 x5 (nI us) g_made g_blocks g_edges g_paths g_many g_lastX g_lastY g_lastBlocks b_op b_number b_kind b_target b_from b_to b_exit b_weight b_firstEdge b_tree b_back b_row b_length b_gone b_done b_went b_cut b_kept b_mark b_way b_tried b_stack)) := by
  have h3 := ce_2 (f_drafted := f_drafted) (f_blocks := f_blocks) (f_edges := f_edges) (f_probed := f_probed) (f_paths := f_paths) (f_fresh := f_fresh) (f_x := f_x) (f_y := f_y) (f_steps := f_steps) (a_op := a_op) (a_with := a_with) (a_kind := a_kind) (a_target := a_target) (a_from := a_from) (a_to := a_to) (a_exit := a_exit) (a_weights := a_weights) (a_inTree := a_inTree) (a_back := a_back) (a_first := a_first) (a_probes := a_probes) (a_joined := a_joined) (a_order := a_order) (a_ahead := a_ahead) (a_met := a_met) (a_way := a_way) (a_ways := a_ways) (a_adds := a_adds) (a_begins := a_begins) (a_hits := a_hits) (a_cuts := a_cuts) (a_gone := a_gone) (a_runs := a_runs) (a_version := a_version) (a_counts := a_counts) (a_known := a_known) (g_made := g_made) (g_blocks := g_blocks) (g_edges := g_edges) (g_paths := g_paths) (g_many := g_many) (g_lastX := g_lastX) (g_lastY := g_lastY) (g_lastBlocks := g_lastBlocks) (b_op := b_op) (b_number := b_number) (b_kind := b_kind) (b_target := b_target) (b_from := b_from) (b_to := b_to) (b_exit := b_exit) (b_weight := b_weight) (b_firstEdge := b_firstEdge) (b_tree := b_tree) (b_back := b_back) (b_row := b_row) (b_length := b_length) (b_gone := b_gone) (b_done := b_done) (b_went := b_went) (b_cut := b_cut) (b_kept := b_kept) (b_mark := b_mark) (b_way := b_way) (b_tried := b_tried) (b_stack := b_stack) hus x1 x2 x3 x4 x5
  by_cases h : us ≤ 0
  · have hl : nI us ≤ 0 := nI_le (b := 0) h (by omega)
    rcases h3 with ⟨q0, q1, q2, q3⟩ | ⟨q2, q3⟩
    · exact Or.inl ⟨⟨fun h' => by omega, q0, q1⟩, fun post hp => br_t hl (q2 post hp), fun post hp => br_t hl (q3 post hp)⟩
    · exact Or.inr ⟨fun post hp => br_t hl (q2 post hp), fun post hp => br_t hl (q3 post hp)⟩
  · have hl : ¬ nI us ≤ 0 := nI_ge (a := 0) (by omega) (by omega)
    rcases cw_in x3 12 (by omega) (M := 11) (by decide) with ⟨j, hj, e, hX, hY⟩ | ⟨_, hX, hY⟩
    · rcases h3 with ⟨q0, q1, q2, q3⟩ | ⟨q2, q3⟩
      · exact Or.inl ⟨⟨fun _ => ⟨j, hj, e⟩, q0, q1⟩, fun post hp => br_f hl (hX _ (br_f (by decide) (q2 post hp))), fun post hp => br_f hl (hY _ (br_f (by decide) (q3 post hp)))⟩
      · exact Or.inr ⟨fun post hp => br_f hl (hX _ (br_f (by decide) (q2 post hp))), fun post hp => br_f hl (hY _ (br_f (by decide) (q3 post hp)))⟩
    · exact Or.inr ⟨fun post hp => br_f hl (hX _ (br_t rfl hp)), fun post hp => br_f hl (hY _ (br_t rfl hp))⟩
end
theorem ce_i0 (b : Nat) : 3 * nI b = nI (3 * b) := pk_mul 3 b
theorem ce_i1 (b : Nat) : 3 * nI b + 1 = nI (3 * b + 1) := by rw [ce_i0, nI_1]
theorem ce_i2 (b : Nat) : 3 * nI b + 2 = nI (3 * b + 2) := by rw [ce_i0]; exact nI_add (3 * b) 2
section
variable {f_drafted f_blocks f_edges f_probed f_paths f_fresh f_x f_y f_steps : Int32} {a_op a_with a_kind a_target a_from a_to a_exit a_weights a_inTree a_back a_first a_probes a_joined a_order a_ahead a_met a_way a_ways a_adds a_begins a_hits a_cuts a_gone a_runs a_version a_counts a_known : Nat → Int32}
/-- the targets are stored -/
theorem ce_x84 {us b kd : Nat} (hb : b < 12) (hkd : kd ≤ 5) (hus : us ≤ 3) (x3 x4 x5 : Int32) (h0 : ce_ok us 0 x3) (h1 : ce_ok us 1 x4) (h2 : ce_ok us 2 x5) :
    ∃ tX : Nat → Int32, (∀ i, i ≠ 3 * b → i ≠ 3 * b + 1 → i ≠ 3 * b + 2 → tX i = a_target i) ∧ (0 < us → tX (3 * b) = x3) ∧ (1 < us → tX (3 * b + 1) = x4) ∧ (2 < us → tX (3 * b + 2) = x5) ∧
      ∀ post : Int32 → SX → Prop, post 1 (f_drafted, f_blocks, f_edges, f_probed, f_paths, f_fresh, f_x, f_y, f_steps, a_op, a_with, upd a_kind b (nI kd), tX, a_from, a_to, a_exit, a_weights, a_inTree, a_back, a_first, a_probes, a_joined, a_order, a_ahead, a_met, a_way, a_ways, a_adds, a_begins, a_hits, a_cuts, a_gone, a_runs, a_version, a_counts, a_known) → wX_exits_84 post (nI b) (nI kd) x3 x4 x5 (nI us) f_drafted f_blocks f_edges f_probed f_paths f_fresh f_x f_y f_steps a_op a_with a_kind a_target a_from a_to a_exit a_weights a_inTree a_back a_first a_probes a_joined a_order a_ahead a_met a_way a_ways a_adds a_begins a_hits a_cuts a_gone a_runs a_version a_counts a_known := by
  refine ⟨upd (upd (upd a_target (3 * b) (vp_nar .byte (if us ≤ 0 then 12 else x3).toInt8.toInt32)) (3 * b + 1) (vp_nar .byte (if us ≤ 1 then 0 else x4).toInt8.toInt32)) (3 * b + 2) (vp_nar .byte (if us ≤ 2 then 0 else x5).toInt8.toInt32), fun i a1 a2 a3 => by rw [pk_un a3, pk_un a2, pk_un a1], fun h => ?_, fun h => ?_, fun h => ?_, fun post hp => ?_⟩
  · obtain ⟨t, t1, t2⟩ := h0 h
    rw [pk_un (by omega), pk_un (by omega), pk_us, if_neg (by omega), t2, cd_nb (by omega)]
  · obtain ⟨t, t1, t2⟩ := h1 h
    rw [pk_un (by omega), pk_us, if_neg (by omega), t2, cd_nb (by omega)]
  · obtain ⟨t, t1, t2⟩ := h2 h
    rw [pk_us, if_neg (by omega), t2, cd_nb (by omega)]
  · have s2 : ∀ z0 : Int32, z0 = (if us ≤ 1 then 0 else x4) → wX_exits_133 post (nI b) x5 (nI us) z0 (3 * nI b + 1) f_drafted f_blocks f_edges f_probed f_paths f_fresh f_x f_y f_steps a_op a_with (upd a_kind b (nI kd)) (upd a_target (3 * b) (vp_nar .byte (if us ≤ 0 then 12 else x3).toInt8.toInt32)) a_from a_to a_exit a_weights a_inTree a_back a_first a_probes a_joined a_order a_ahead a_met a_way a_ways a_adds a_begins a_hits a_cuts a_gone a_runs a_version a_counts a_known := by
      intro z0 hz
      subst hz
      refine And.intro (pk_in (3 * b + 1) 72 (by omega) (hx := ce_i1 b)) (nm_r (cd_up (ce_i1 b) (by omega) rfl) (pk_le us 2 (fun h => ⟨pk_in (3 * b + 2) 72 (by omega) (hx := ce_i2 b), nm_r (cd_up (ce_i2 b) (by omega) rfl) ?_⟩) (fun h => ⟨pk_in (3 * b + 2) 72 (by omega) (hx := ce_i2 b), nm_r (cd_up (ce_i2 b) (by omega) rfl) ?_⟩)))
      · rw [if_pos h] at hp; exact hp
      · rw [if_neg (show ¬ us ≤ 2 by omega)] at hp; exact hp
    have s1 : ∀ z0 : Int32, z0 = (if us ≤ 0 then 12 else x3) → wX_exits_110 post (nI b) x4 x5 (nI us) z0 (3 * nI b) f_drafted f_blocks f_edges f_probed f_paths f_fresh f_x f_y f_steps a_op a_with (upd a_kind b (nI kd)) a_target a_from a_to a_exit a_weights a_inTree a_back a_first a_probes a_joined a_order a_ahead a_met a_way a_ways a_adds a_begins a_hits a_cuts a_gone a_runs a_version a_counts a_known := by
      intro z0 hz
      subst hz
      exact And.intro (pk_in (3 * b) 72 (by omega) (hx := ce_i0 b)) (nm_r (cd_up (ce_i0 b) (by omega) rfl) (pk_le us 1 (fun h => s2 0 (if_pos h).symm) (fun h => s2 x4 (if_neg (by omega)).symm)))
    exact And.intro (vp_in_nI (by omega) (by omega)) (nm_r (cd_up rfl (by omega) (cd_nb (by omega))) (pk_le us 0 (fun h => s1 12 (if_pos h).symm) (fun h => s1 x3 (if_neg (by omega)).symm)))
end
theorem i_vc_exits {k : Nat} {u : SX} {v : SY} (I : i_Rel k u v) (hk : k + 6 ≤ 3072) (v1 : Int32) (v2 : Int32) (v3 : Int32) (v4 : Int32) (v5 : Int32) : wpX_exits (fun r u' => wpY_exits (fun r' v' => r' = r ∧ i_Rel (k + 6) u' v') v v1 v2 v3 v4 v5) u v1 v2 v3 v4 v5 := by
  revert I
  refine cr_el (P := fun u v => i_Rel k u v → wpX_exits (fun r u' => wpY_exits (fun r' v' => r' = r ∧ i_Rel (k + 6) u' v') v v1 v2 v3 v4 v5) u v1 v2 v3 v4 v5) ?_ u v
  intro f_drafted f_blocks f_edges f_probed f_paths f_fresh f_x f_y f_steps a_op a_with a_kind a_target a_from a_to a_exit a_weights a_inTree a_back a_first a_probes a_joined a_order a_ahead a_met a_way a_ways a_adds a_begins a_hits a_cuts a_gone a_runs a_version a_counts a_known g_made g_blocks g_edges g_paths g_many g_lastX g_lastY g_lastBlocks b_op b_number b_kind b_target b_from b_to b_exit b_weight b_firstEdge b_tree b_back b_row b_length b_gone b_done b_went b_cut b_kept b_mark b_way b_tried b_stack
  intro I
  have I6 := i_up I
  obtain ⟨⟨dr, rfl, rfl, D1, D2, D3, D4⟩, ⟨rfl, rfl, rfl⟩, hxy, _⟩ := I
  rcases cw_in v1 dr (by omega) (cw_pM (n := dr) (by omega)) with ⟨b, hb, rfl, hX, hY⟩ | ⟨_, hX, hY⟩
  · rcases cw_in v2 6 (by omega) (M := 5) (by decide) with ⟨kd, hkd, rfl, hX2, hY2⟩ | ⟨_, hX2, hY2⟩
    · -- the number of exits that are used
      have main : ∀ us, us = (if kd = 0 then 0 else cg_ex kd) → wX_exits_34 (fun r u' => wpY_exits (fun r' v' => r' = r ∧ i_Rel (k + 6) u' v') (nI dr, g_blocks, g_edges, g_paths, g_many, g_lastX, g_lastY, g_lastBlocks, a_op, a_with, a_kind, b_target, b_from, b_to, b_exit, b_weight, b_firstEdge, b_tree, b_back, b_row, b_length, b_gone, b_done, b_went, b_cut, b_kept, b_mark, b_way, b_tried, b_stack) (nI b) (nI kd) v3 v4 v5) (nI b) (nI kd) v3 v4 v5 (nI us) (nI dr) f_blocks f_edges f_probed f_paths f_fresh f_x f_y f_steps a_op a_with a_kind a_target a_from a_to a_exit a_weights a_inTree a_back a_first a_probes a_joined a_order a_ahead a_met a_way a_ways a_adds a_begins a_hits a_cuts a_gone a_runs a_version a_counts a_known := by
        intro us hus
        have hus3 : us ≤ 3 := by rw [hus]; split; omega; exact (cg_ex1 kd).2
        have yent : ∀ post : Int32 → SY → Prop, wY_exits_37 post (nI b) (nI kd) v3 v4 v5 (nI us) (nI dr) g_blocks g_edges g_paths g_many g_lastX g_lastY g_lastBlocks a_op a_with a_kind b_target b_from b_to b_exit b_weight b_firstEdge b_tree b_back b_row b_length b_gone b_done b_went b_cut b_kept b_mark b_way b_tried b_stack → wpY_exits post (nI dr, g_blocks, g_edges, g_paths, g_many, g_lastX, g_lastY, g_lastBlocks, a_op, a_with, a_kind, b_target, b_from, b_to, b_exit, b_weight, b_firstEdge, b_tree, b_back, b_row, b_length, b_gone, b_done, b_went, b_cut, b_kept, b_mark, b_way, b_tried, b_stack) (nI b) (nI kd) v3 v4 v5 := by
          intro post hp
          unfold wpY_exits
          refine hY _ ?_
          refine br_f (by decide) ?_
          refine hY2 _ ?_
          refine br_f (by decide) ?_
          by_cases h0 : kd = 0
          · rw [hus, if_pos h0] at hp
            exact br_t (by rw [h0]; rfl) hp
          · rw [hus, if_neg h0] at hp
            exact br_f (nI_ne0 (by omega) (by omega)) (cw_exY (by omega) _ hp)
        rcases ce_1 (f_blocks := f_blocks) (f_edges := f_edges) (f_probed := f_probed) (f_paths := f_paths) (f_fresh := f_fresh) (f_x := f_x) (f_y := f_y) (f_steps := f_steps) (a_op := a_op) (a_with := a_with) (a_kind := a_kind) (a_target := a_target) (a_from := a_from) (a_to := a_to) (a_exit := a_exit) (a_weights := a_weights) (a_inTree := a_inTree) (a_back := a_back) (a_first := a_first) (a_probes := a_probes) (a_joined := a_joined) (a_order := a_order) (a_ahead := a_ahead) (a_met := a_met) (a_way := a_way) (a_ways := a_ways) (a_adds := a_adds) (a_begins := a_begins) (a_hits := a_hits) (a_cuts := a_cuts) (a_gone := a_gone) (a_runs := a_runs) (a_version := a_version) (a_counts := a_counts) (a_known := a_known) (f_drafted := nI dr) (g_blocks := g_blocks) (g_edges := g_edges) (g_paths := g_paths) (g_many := g_many) (g_lastX := g_lastX) (g_lastY := g_lastY) (g_lastBlocks := g_lastBlocks) (b_target := b_target) (b_from := b_from) (b_to := b_to) (b_exit := b_exit) (b_weight := b_weight) (b_firstEdge := b_firstEdge) (b_tree := b_tree) (b_back := b_back) (b_row := b_row) (b_length := b_length) (b_gone := b_gone) (b_done := b_done) (b_went := b_went) (b_cut := b_cut) (b_kept := b_kept) (b_mark := b_mark) (b_way := b_way) (b_tried := b_tried) (b_stack := b_stack) (g_made := nI dr) (b_op := a_op) (b_number := a_with) (b_kind := a_kind) hus3 (nI b) (nI kd) v3 v4 v5 with ⟨⟨c0, c1, c2⟩, q2, q3⟩ | ⟨q2, q3⟩
        · obtain ⟨tX, t0, t1, t2, t3, t4⟩ := ce_x84 (f_blocks := f_blocks) (f_edges := f_edges) (f_probed := f_probed) (f_paths := f_paths) (f_fresh := f_fresh) (f_x := f_x) (f_y := f_y) (f_steps := f_steps) (a_op := a_op) (a_with := a_with) (a_kind := a_kind) (a_target := a_target) (a_from := a_from) (a_to := a_to) (a_exit := a_exit) (a_weights := a_weights) (a_inTree := a_inTree) (a_back := a_back) (a_first := a_first) (a_probes := a_probes) (a_joined := a_joined) (a_order := a_order) (a_ahead := a_ahead) (a_met := a_met) (a_way := a_way) (a_ways := a_ways) (a_adds := a_adds) (a_begins := a_begins) (a_hits := a_hits) (a_cuts := a_cuts) (a_gone := a_gone) (a_runs := a_runs) (a_version := a_version) (a_counts := a_counts) (a_known := a_known) (f_drafted := nI dr) (us := us) (b := b) (kd := kd) (by omega) (by omega) hus3 v3 v4 v5 c0 c1 c2
          refine q2 _ (t4 _ (yent _ (q3 _ ?_)))
          refine And.intro (vp_in_nI (by omega) (by omega)) (nm_r (cd_up rfl (by omega) rfl) ⟨pk_in (3 * b) 72 (by omega) (hx := ce_i0 b), nm_r (cd_up (ce_i0 b) (by omega) rfl) ⟨pk_in (3 * b + 1) 72 (by omega) (hx := ce_i1 b), nm_r (cd_up (ce_i1 b) (by omega) rfl) ⟨pk_in (3 * b + 2) 72 (by omega) (hx := ce_i2 b), nm_r (cd_up (ce_i2 b) (by omega) rfl) ?_⟩⟩⟩)
          refine ⟨rfl, ?_⟩
          obtain ⟨_, _, _, hV, hB⟩ := I6
          refine ⟨⟨dr, rfl, rfl, D1, D2, fun i hi => ?_, fun c x hc hx h0 h5 y hy => ?_⟩, ⟨rfl, rfl, rfl⟩, hxy, hV, ?_⟩
          · by_cases e : i = b
            · rw [e, pk_us]; exact ⟨kd, by omega, rfl⟩
            · rw [pk_un e]; exact D3 i hi
          · have hy3 := (cg_ex1 x).2
            by_cases e : c = b
            · rw [e, pk_us] at hx
              have ex : kd = x := cd_im hx (by omega) (by omega)
              subst ex
              rw [if_neg (by omega)] at hus
              subst e
              have hy' : y = 0 ∨ y = 1 ∨ y = 2 := by omega
              rcases hy' with rfl | rfl | rfl
              · obtain ⟨t, s1, s2⟩ := c0 (by omega)
                exact ⟨t, s1, by show tX (3 * c) = nI t; rw [t1 (by omega)]; exact s2, by show upd (upd (upd b_target (3 * c) v3) (3 * c + 1) v4) (3 * c + 2) v5 (3 * c) = nI t; rw [pk_un (by omega), pk_un (by omega), pk_us]; exact s2⟩
              · obtain ⟨t, s1, s2⟩ := c1 (by omega)
                exact ⟨t, s1, by rw [t2 (by omega)]; exact s2, by rw [pk_un (by omega), pk_us]; exact s2⟩
              · obtain ⟨t, s1, s2⟩ := c2 (by omega)
                exact ⟨t, s1, by rw [t3 (by omega)]; exact s2, by rw [pk_us]; exact s2⟩
            · rw [pk_un e] at hx
              obtain ⟨t, s1, s2, s3⟩ := D4 c x hc hx h0 h5 y hy
              exact ⟨t, s1, by rw [t0 _ (by omega) (by omega) (by omega)]; exact s2, by rw [pk_un (by omega), pk_un (by omega), pk_un (by omega)]; exact s3⟩
          · rcases hB with hB | ⟨nb, ki, fs, F, T, bk, m, rk, tr, ⟨G, e4, e5, e6⟩, hR⟩
            · exact Or.inl hB
            · refine Or.inr ⟨nb, ki, fs, F, T, bk, m, rk, tr, ⟨G, e4, fun c hc => ?_, e6⟩, hR⟩
              rw [pk_un (by omega)]; exact e5 c hc
        · exact q2 _ (yent _ (q3 _ ⟨rfl, I6⟩))
      unfold wpX_exits
      refine hX _ ?_
      refine br_f (by decide) ?_
      refine hX2 _ ?_
      refine br_f (by decide) ?_
      by_cases h0 : kd = 0
      · exact br_t (by rw [h0]; rfl) (main 0 (if_pos h0).symm)
      · exact br_f (nI_ne0 (by omega) (by omega)) (cw_exX (by omega) _ (main _ (if_neg h0).symm))
    · unfold wpX_exits
      refine hX _ ?_
      refine br_f (by decide) ?_
      refine hX2 _ ?_
      refine br_t rfl ?_
      unfold wpY_exits
      refine hY _ ?_
      refine br_f (by decide) ?_
      refine hY2 _ ?_
      exact br_t rfl ⟨rfl, I6⟩
  · unfold wpX_exits
    refine hX _ ?_
    refine br_t rfl ?_
    unfold wpY_exits
    refine hY _ ?_
    exact br_t rfl ⟨rfl, I6⟩
end
section
/-! edge, probe, path -/
theorem i_vc_edge {k : Nat} {u : SX} {v : SY} (I : i_Rel k u v) (hk : k + 6 ≤ 3072) (v1 : Int32) (v2 : Int32) : wpX_edge (fun r => wpY_edge (fun r' => r' = r ∧ i_Rel (k + 6) u v) v v1 v2) u v1 v2 := by
  revert I
  refine cr_el (P := fun u v => i_Rel k u v → wpX_edge (fun r => wpY_edge (fun r' => r' = r ∧ i_Rel (k + 6) u v) v v1 v2) u v1 v2) ?_ u v
  intro f_drafted f_blocks f_edges f_probed f_paths f_fresh f_x f_y f_steps a_op a_with a_kind a_target a_from a_to a_exit a_weights a_inTree a_back a_first a_probes a_joined a_order a_ahead a_met a_way a_ways a_adds a_begins a_hits a_cuts a_gone a_runs a_version a_counts a_known g_made g_blocks g_edges g_paths g_many g_lastX g_lastY g_lastBlocks b_op b_number b_kind b_target b_from b_to b_exit b_weight b_firstEdge b_tree b_back b_row b_length b_gone b_done b_went b_cut b_kept b_mark b_way b_tried b_stack
  intro I
  have I6 := i_up I
  obtain ⟨hD, hop, hxy, hV, hB⟩ := I
  rcases hB with ⟨b1, b2, b3, b4, b5, b6, b7⟩ | ⟨nb, ki, fs, F, T, bk, m, rk, tr, ⟨G, ⟨e1, e2, e3, e4⟩, e5, e6, e7, e8⟩, hK, hDF, hPX, hPY, hw, hT, hS, hS2, hfr⟩
  · subst b2 b5
    rcases cw_in v1 0 (by omega) (M := 0 - 1) (by decide) with ⟨j, hj, _⟩ | ⟨_, hX, hY⟩
    · omega
    · unfold wpX_edge; refine hX _ ?_; refine br_t rfl ?_
      unfold wpY_edge; refine hY _ ?_; refine br_t rfl ?_
      exact ⟨rfl, I6⟩
  · have hne := cg_ne G
    subst e3 e4
    rcases cw_in v1 (fs nb + 1) (by omega) (cw_pM (n := fs nb + 1) (by omega)) with ⟨j, hj, rfl, hX, hY⟩ | ⟨_, hX, hY⟩
    · unfold wpX_edge; refine hX _ ?_; refine br_f (by decide) ?_
      have hin : vp_in (nI j) 37 := vp_in_nI (by omega) (by omega)
      obtain ⟨c1, c2, c3, c4, c5⟩ := e6 j hj
      obtain ⟨t1, t2, t3, t4⟩ := hT.1 j hj
      obtain ⟨k1, k2⟩ := hK j hj
      obtain ⟨f1, f2⟩ := cg_FT12 G hj
      by_cases h0 : v2 < 0
      · refine br_t h0 ?_
        unfold wpY_edge; refine hY _ ?_; refine br_f (by decide) (br_t h0 ?_)
        exact ⟨rfl, I6⟩
      · by_cases h5 : 5 < v2
        · refine br_f h0 (br_t h5 ?_)
          unfold wpY_edge; refine hY _ ?_; refine br_f (by decide) (br_f h0 (br_t h5 ?_))
          exact ⟨rfl, I6⟩
        · obtain ⟨n, hn, rfl⟩ := nI_of2 (x := v2) (M := 5) (n := 5) (by decide) h0 (Int32.not_lt.mp h5)
          have hn6 : n = 0 ∨ n = 1 ∨ n = 2 ∨ n = 3 ∨ n = 4 ∨ n = 5 := by omega
          rcases hn6 with rfl | rfl | rfl | rfl | rfl | rfl
          · refine br_f h0 (br_f h5 (br_t rfl ⟨hin, ?_⟩))
            by_cases h12 : F j = 12
            · refine br_t (by rw [cd_rd rfl (by omega) c1, h12]; rfl) ?_
              unfold wpY_edge; refine hY _ ?_; refine br_f (by decide) (br_f h0 (br_f h5 (br_t rfl ⟨hin, ?_, I6⟩)))
              rw [cd_rd rfl (by omega) c2, h12]; rfl
            · refine br_f (by rw [cd_rd rfl (by omega) c1]; exact fun h => h12 (cd_im (b := 12) h (by omega) (by omega))) ⟨hin, ?_⟩
              unfold wpY_edge; refine hY _ ?_; refine br_f (by decide) (br_f h0 (br_f h5 (br_t rfl ⟨hin, ?_, I6⟩)))
              rw [cd_rd rfl (by omega) c2, cd_rd rfl (by omega) c1, cd_cvn h12]
          · refine br_f h0 (br_f h5 (br_f (by decide) (br_t rfl ⟨hin, ?_⟩)))
            unfold wpY_edge; refine hY _ ?_; refine br_f (by decide) (br_f h0 (br_f h5 (br_f (by decide) (br_t rfl ⟨hin, ?_, I6⟩))))
            rw [nI_clamp (by omega)]; exact c5.symm
          · refine br_f h0 (br_f h5 (br_f (by decide) (br_f (by decide) (br_t rfl ⟨hin, ?_⟩))))
            by_cases h12 : T j = 12
            · refine br_t (by rw [cd_rd rfl (by omega) c3, h12]; rfl) ?_
              unfold wpY_edge; refine hY _ ?_; refine br_f (by decide) (br_f h0 (br_f h5 (br_f (by decide) (br_f (by decide) (br_t rfl ⟨hin, ?_, I6⟩)))))
              rw [cd_rd rfl (by omega) c4, h12]; rfl
            · refine br_f (by rw [cd_rd rfl (by omega) c3]; exact fun h => h12 (cd_im (b := 12) h (by omega) (by omega))) ⟨hin, ?_⟩
              unfold wpY_edge; refine hY _ ?_; refine br_f (by decide) (br_f h0 (br_f h5 (br_f (by decide) (br_f (by decide) (br_t rfl ⟨hin, ?_, I6⟩)))))
              rw [cd_rd rfl (by omega) c4, cd_rd rfl (by omega) c3, cd_cvn h12]
          · refine br_f h0 (br_f h5 (br_f (by decide) (br_f (by decide) (br_f (by decide) (br_t rfl ⟨hin, ?_⟩)))))
            by_cases ht : tr j = 0
            · refine br_t (by rw [cd_rd rfl (by omega) t2, ht]; rfl) ?_
              unfold wpY_edge; refine hY _ ?_; exact br_f (by decide) (br_f h0 (br_f h5 (br_f (by decide) (br_f (by decide) (br_f (by decide) (br_t rfl ⟨hin, br_t (by rw [cd_rd rfl (by omega) t3, ht]; rfl) ⟨rfl, I6⟩⟩))))))
            · refine br_f (by rw [cd_rd rfl (by omega) t2]; exact nI_ne0 (by omega) (by omega)) ?_
              unfold wpY_edge; refine hY _ ?_; exact br_f (by decide) (br_f h0 (br_f h5 (br_f (by decide) (br_f (by decide) (br_f (by decide) (br_t rfl ⟨hin, br_f (by rw [cd_rd rfl (by omega) t3]; exact nI_ne0 (by omega) (by omega)) ⟨rfl, I6⟩⟩))))))
          · refine br_f h0 (br_f h5 (br_f (by decide) (br_f (by decide) (br_f (by decide) (br_f (by decide) (br_t rfl ⟨hin, ?_⟩))))))
            have hb01 : bk j ≤ 1 := by rcases cg_bk G hDF hj with h | ⟨h, _⟩ <;> omega
            by_cases ht : bk j = 0
            · refine br_t (by rw [cd_rd rfl (by omega) k1, ht]; rfl) ?_
              unfold wpY_edge; refine hY _ ?_; exact br_f (by decide) (br_f h0 (br_f h5 (br_f (by decide) (br_f (by decide) (br_f (by decide) (br_f (by decide) (br_t rfl ⟨hin, br_t (by rw [cd_rd rfl (by omega) k2, ht]; rfl) ⟨rfl, I6⟩⟩)))))))
            · refine br_f (by rw [cd_rd rfl (by omega) k1]; exact nI_ne0 (by omega) (by omega)) ?_
              unfold wpY_edge; refine hY _ ?_; exact br_f (by decide) (br_f h0 (br_f h5 (br_f (by decide) (br_f (by decide) (br_f (by decide) (br_f (by decide) (br_t rfl ⟨hin, br_f (by rw [cd_rd rfl (by omega) k2]; exact nI_ne0 (by omega) (by omega)) ⟨rfl, I6⟩⟩)))))))
          · refine br_f h0 (br_f h5 (br_f (by decide) (br_f (by decide) (br_f (by decide) (br_f (by decide) (br_f (by decide) (br_t rfl ⟨hin, ?_⟩)))))))
            unfold wpY_edge; refine hY _ ?_; refine br_f (by decide) (br_f h0 (br_f h5 (br_f (by decide) (br_f (by decide) (br_f (by decide) (br_f (by decide) (br_f (by decide) (br_t rfl ⟨hin, ?_, I6⟩))))))))
            rw [nI_clamp (by omega)]; exact (hw j hj).symm
    · unfold wpX_edge; refine hX _ ?_; refine br_t rfl ?_
      unfold wpY_edge; refine hY _ ?_; refine br_t rfl ?_
      exact ⟨rfl, I6⟩
section
variable {g_made g_blocks g_edges g_paths g_many g_lastX g_lastY g_lastBlocks : Int32} {b_op b_number b_kind b_target b_from b_to b_exit b_weight b_firstEdge b_tree b_back b_row b_length b_gone b_done b_went b_cut b_kept b_mark b_way b_tried b_stack : Nat → Int32}
theorem cr_prY {ne q : Nat} {tr : Nat → Nat} (hne : ne ≤ 37) (hq : q < 2 ^ 31) (hE : g_edges = nI ne) (htr : ∀ e, e < ne → tr e ≤ 1) (ht : ∀ e, e < ne → b_tree e = nI (tr e)) :
    ∀ r e, e + r = ne → cr_nt tr e ≤ q →
      (∃ e0, e0 < ne ∧ tr e0 = 0 ∧ cr_nt tr e0 = q ∧ ∀ post : Int32 → Prop, post (nI e0) → wY_probe_4 post (nI q) g_made g_blocks g_edges g_paths g_many g_lastX g_lastY g_lastBlocks b_op b_number b_kind b_target b_from b_to b_exit b_weight b_firstEdge b_tree b_back b_row b_length b_gone b_done b_went b_cut b_kept b_mark b_way b_tried b_stack (r + 1) (nI (cr_nt tr e)) (nI e)) ∨
      (cr_nt tr ne ≤ q ∧ ∀ post : Int32 → Prop, post (-1) → wY_probe_4 post (nI q) g_made g_blocks g_edges g_paths g_many g_lastX g_lastY g_lastBlocks b_op b_number b_kind b_target b_from b_to b_exit b_weight b_firstEdge b_tree b_back b_row b_length b_gone b_done b_went b_cut b_kept b_mark b_way b_tried b_stack (r + 1) (nI (cr_nt tr e)) (nI e)) := by
  intro r
  induction r with
  | zero =>
    intro e he hc
    have e1 : e = ne := by omega
    subst e1
    exact Or.inr ⟨hc, fun post hp => br_t (by rw [hE]; exact nI_le (Nat.le_refl _) (by omega)) hp⟩
  | succ r ih =>
    intro e he hc
    have hle := cr_ntle tr e
    have hs : cr_nt tr (e + 1) = cr_nt tr e + (1 - tr e) := rfl
    have g1 : ¬ g_edges ≤ nI e := by rw [hE]; exact nI_ge (by omega) (by omega)
    have g2 : ¬ nI q < 0 := nI_pos hq
    by_cases h0 : tr e = 0
    · have r0 : b_tree (nI e).toNatClampNeg = 0 := by rw [cd_rd rfl (by omega) (ht e (by omega)), h0]; rfl
      by_cases hcq : cr_nt tr e = q
      · exact Or.inl ⟨e, by omega, h0, hcq, fun post hp => br_f g1 (br_f g2 ⟨vp_in_nI (by omega) (by omega), br_t r0 (br_t (congrArg nI hcq) hp)⟩)⟩
      · have hn : ¬ nI (cr_nt tr e) = nI q := fun h => hcq (cd_im h (by omega) hq)
        rcases ih (e + 1) (by omega) (by omega) with ⟨e0, p1, p2, p3, p4⟩ | ⟨p1, p4⟩
        · refine Or.inl ⟨e0, p1, p2, p3, fun post hp => br_f g1 (br_f g2 ⟨vp_in_nI (by omega) (by omega), br_t r0 (br_f hn (nm_r (nI_1 _) (nm_r (nI_1 e) ?_)))⟩)⟩
          have := p4 post hp
          rw [hs, h0] at this; exact this
        · refine Or.inr ⟨p1, fun post hp => br_f g1 (br_f g2 ⟨vp_in_nI (by omega) (by omega), br_t r0 (br_f hn (nm_r (nI_1 _) (nm_r (nI_1 e) ?_)))⟩)⟩
          have := p4 post hp
          rw [hs, h0] at this; exact this
    · have h1 := htr e (by omega)
      have r0 : ¬ b_tree (nI e).toNatClampNeg = 0 := by rw [cd_rd rfl (by omega) (ht e (by omega))]; exact nI_ne0 (by omega) (by omega)
      rcases ih (e + 1) (by omega) (by omega) with ⟨e0, p1, p2, p3, p4⟩ | ⟨p1, p4⟩
      · refine Or.inl ⟨e0, p1, p2, p3, fun post hp => br_f g1 (br_f g2 ⟨vp_in_nI (by omega) (by omega), br_f r0 (nm_r (nI_1 e) ?_)⟩)⟩
        have := p4 post hp
        rw [hs, show tr e = 1 by omega] at this; exact this
      · refine Or.inr ⟨p1, fun post hp => br_f g1 (br_f g2 ⟨vp_in_nI (by omega) (by omega), br_f r0 (nm_r (nI_1 e) ?_)⟩)⟩
        have := p4 post hp
        rw [hs, show tr e = 1 by omega] at this; exact this
end
theorem i_vc_probe {k : Nat} {u : SX} {v : SY} (I : i_Rel k u v) (hk : k + 6 ≤ 3072) (v1 : Int32) : wpX_probe (fun r => wpY_probe (fun r' => r' = r ∧ i_Rel (k + 6) u v) v v1) u v1 := by
  revert I
  refine cr_el (P := fun u v => i_Rel k u v → wpX_probe (fun r => wpY_probe (fun r' => r' = r ∧ i_Rel (k + 6) u v) v v1) u v1) ?_ u v
  intro f_drafted f_blocks f_edges f_probed f_paths f_fresh f_x f_y f_steps a_op a_with a_kind a_target a_from a_to a_exit a_weights a_inTree a_back a_first a_probes a_joined a_order a_ahead a_met a_way a_ways a_adds a_begins a_hits a_cuts a_gone a_runs a_version a_counts a_known g_made g_blocks g_edges g_paths g_many g_lastX g_lastY g_lastBlocks b_op b_number b_kind b_target b_from b_to b_exit b_weight b_firstEdge b_tree b_back b_row b_length b_gone b_done b_went b_cut b_kept b_mark b_way b_tried b_stack
  intro I
  have I6 := i_up I
  obtain ⟨hD, hop, hxy, hV, hB⟩ := I
  rcases hB with ⟨b1, b2, b3, b4, b5, b6, b7⟩ | ⟨nb, ki, fs, F, T, bk, m, rk, tr, ⟨G, ⟨e1, e2, e3, e4⟩, e5, e6, e7, e8⟩, hK, hDF, hPX, hPY, hw, ⟨t1, t2, t3, t4, _⟩, hS, hS2, hfr⟩
  · subst b3 b5
    rcases cw_in v1 0 (by omega) (M := 0 - 1) (by decide) with ⟨j, hj, _⟩ | ⟨_, hX, hY⟩
    · omega
    · unfold wpX_probe; refine hX _ ?_; refine br_t rfl ?_
      exact ⟨1, br_t (by decide) ⟨rfl, I6⟩⟩
  · have hne := cg_ne G
    have hle := cr_ntle tr (fs nb + 1)
    subst t3
    by_cases hneg : v1 < 0
    · unfold wpX_probe
      refine br_t hneg (br_t rfl ?_)
      exact ⟨1, br_f (by rw [e4]; exact nI_ge (a := 0) (by omega) (by omega)) (br_t hneg ⟨rfl, I6⟩)⟩
    · obtain ⟨q, hq, rfl⟩ := nI_of hneg
      have hY := cr_prY (g_made := g_made) (g_blocks := g_blocks) (g_edges := g_edges) (g_paths := g_paths) (g_many := g_many) (g_lastX := g_lastX) (g_lastY := g_lastY) (g_lastBlocks := g_lastBlocks) (b_op := b_op) (b_number := b_number) (b_kind := b_kind) (b_target := b_target) (b_from := b_from) (b_to := b_to) (b_exit := b_exit) (b_weight := b_weight) (b_firstEdge := b_firstEdge) (b_tree := b_tree) (b_back := b_back) (b_row := b_row) (b_length := b_length) (b_gone := b_gone) (b_done := b_done) (b_went := b_went) (b_cut := b_cut) (b_kept := b_kept) (b_mark := b_mark) (b_way := b_way) (b_tried := b_tried) (b_stack := b_stack) (ne := fs nb + 1) (q := q) (tr := tr) (by omega) hq e4 (fun e he => (t1 e he).1) (fun e he => (t1 e he).2.2.1) (fs nb + 1) 0 (by omega) (Nat.zero_le _)
      rcases hY with ⟨e0, p1, p2, p3, p4⟩ | ⟨p1, p4⟩
      · have hlt : q < cr_nt tr (fs nb + 1) := by rw [← p3]; exact cr_ntl p2 _ p1
        unfold wpX_probe
        refine br_f hneg (br_f (nI_ge hlt (by omega)) (br_f (by decide) ⟨vp_in_nI (by omega) (by omega), ?_⟩))
        refine Exists.intro _ (p4 _ ⟨?_, I6⟩)
        rw [← p3, cd_rd rfl (by omega) (t4 e0 p1 p2)]
      · unfold wpX_probe
        refine br_f hneg (br_t (nI_le p1 (by omega)) (br_t rfl ?_))
        exact Exists.intro _ (p4 _ ⟨rfl, I6⟩)
/-- how many paths, on both sides -/
theorem cr_PP {nb : Nat} {ki fs T m bk : Nat → Nat} {fP gP gM : Int32} {adds begins row len : Nat → Int32} (hX : cr_PX nb ki fs T m bk fP adds begins) (hY : cr_PY (cp_LL nb ki fs T bk nb) gP gM row len) :
    (gM = 0 ∧ (cp_LL nb ki fs T bk nb).length ≤ 300 ∧ fP = nI (cp_LL nb ki fs T bk nb).length ∧ gP = nI (cp_LL nb ki fs T bk nb).length ∧ cr_RW (cp_LL nb ki fs T bk nb) (cp_LL nb ki fs T bk nb).length row len) ∨
    (gM = 1 ∧ 300 < (cp_LL nb ki fs T bk nb).length ∧ gP = nI 300 ∧ ∃ pp, 300 < pp ∧ pp < 10000 ∧ fP = nI pp) := by
  obtain ⟨⟨pp, p1, p2, p3⟩, _⟩ := hX
  unfold cp_sr at p3
  rcases hY with ⟨y1, y2, y3, y4⟩ | ⟨y1, y2, y3⟩
  · exact Or.inl ⟨y1, y2, by rw [p2]; exact congrArg nI (by omega), y3, y4⟩
  · exact Or.inr ⟨y1, y2, y3, pp, by omega, p1, p2⟩
theorem i_vc_path {k : Nat} {u : SX} {v : SY} (I : i_Rel k u v) (hk : k + 6 ≤ 3072) (v1 : Int32) : wpX_path (fun r => wpY_path (fun r' => r' = r ∧ i_Rel (k + 6) u v) v v1) u v1 := by
  revert I
  refine cr_el (P := fun u v => i_Rel k u v → wpX_path (fun r => wpY_path (fun r' => r' = r ∧ i_Rel (k + 6) u v) v v1) u v1) ?_ u v
  intro f_drafted f_blocks f_edges f_probed f_paths f_fresh f_x f_y f_steps a_op a_with a_kind a_target a_from a_to a_exit a_weights a_inTree a_back a_first a_probes a_joined a_order a_ahead a_met a_way a_ways a_adds a_begins a_hits a_cuts a_gone a_runs a_version a_counts a_known g_made g_blocks g_edges g_paths g_many g_lastX g_lastY g_lastBlocks b_op b_number b_kind b_target b_from b_to b_exit b_weight b_firstEdge b_tree b_back b_row b_length b_gone b_done b_went b_cut b_kept b_mark b_way b_tried b_stack
  intro I
  have I6 := i_up I
  obtain ⟨hD, hop, hxy, hV, hB⟩ := I
  rcases hB with ⟨b1, b2, b3, b4, b5, b6, b7⟩ | ⟨nb, ki, fs, F, T, bk, m, rk, tr, ⟨G, ⟨e1, e2, e3, e4⟩, e5, e6, e7, e8⟩, hK, hDF, hPX, hPY, hw, hT, hS, hS2, hfr⟩
  · subst b1 b5
    unfold wpX_path wpX_isPath
    refine br_t (by decide) (br_t rfl ?_)
    exact br_t (by decide) ⟨rfl, I6⟩
  · have hnb := G.2.1
    have hnb1 := G.1
    have hne := cg_ne G
    have hf : ¬ f_blocks ≤ 0 := by rw [e1]; exact nI_nle (by omega) (by omega)
    have hg : ¬ g_edges ≤ 0 := by rw [e4]; exact nI_nle (by omega) (by omega)
    have hS0 := cl_S0.mp hS
    rcases cr_PP hPX hPY with ⟨y1, y2, y3, y4, y5⟩ | ⟨y1, y2, y3, pp, y4, y5, y6⟩
    · subst y3 y4
      rcases cw_in v1 (cp_LL nb ki fs T bk nb).length (by omega) (cw_pM (by omega)) with ⟨j, hj, rfl, hX, hY⟩ | ⟨_, hX, hY⟩
      · unfold wpX_path wpX_isPath
        refine br_f hf (br_f (nI_nlt (a := 300) y2 (by omega)) (hX _ (br_f (by decide) (br_f (by decide) ⟨vp_in_nI (by omega) (by omega), ?_⟩))))
        refine br_f hg (br_t y1 (hY _ (br_f (by decide) ⟨vp_in_nI (by omega) (by omega), ?_, I6⟩)))
        rw [nI_clamp (by omega)]
        exact (hS0.2.2.2.2.2 y2 j hj).symm
      · unfold wpX_path wpX_isPath
        refine br_f hf (br_f (nI_nlt (a := 300) y2 (by omega)) (hX _ (br_t rfl (br_t rfl ?_))))
        exact br_f hg (br_t y1 (hY _ (br_t rfl ⟨rfl, I6⟩)))
    · subst y6
      unfold wpX_path wpX_isPath
      refine br_f hf (br_t (nI_lt (a := 300) y4 (by omega)) (br_t rfl ?_))
      exact br_f hg (br_f (by rw [y1]; decide) ⟨rfl, I6⟩)
end
section
/-! pathEdge -/
def ck_o : Option Nat → Int32
  | some x => nI x
  | none => -1
theorem cp_sre {s n : Nat} (h : cp_sr s n) (hn : n ≤ 300) : s = n := by unfold cp_sr at h; omega
section
variable {f_drafted f_blocks f_edges f_probed f_paths f_fresh f_x f_y f_steps : Int32} {a_op a_with a_kind a_target a_from a_to a_exit a_weights a_inTree a_back a_first a_probes a_joined a_order a_ahead a_met a_way a_ways a_adds a_begins a_hits a_cuts a_gone a_runs a_version a_counts a_known : Nat → Int32}
theorem ck_87 {nb b rest : Nat} {ki fs F T m bk rk : Nat → Nat} (G : cg_GR nb ki fs F T) (D : cg_DF nb ki fs T m bk rk) (hfi : ∀ b, b ≤ nb → a_first b = nI (fs b)) (hX : cr_PX nb ki fs T m bk f_paths a_adds a_begins) (hb : b < nb) (hm : m b = 2) (hL : (cp_LB ki fs T bk b).length ≤ 300) (hr : rest < (cp_LB ki fs T bk b).length) (x2 x6 : Int32) :
    ∀ r j, j + r + 1 = cg_ex (ki b) → (cp_fl (fun i => cp_LE ki fs T bk (fs b + i)) j).length ≤ rest →
      ∃ j', j' < cg_ex (ki b) ∧ (cp_fl (fun i => cp_LE ki fs T bk (fs b + i)) j').length ≤ rest ∧ rest < (cp_fl (fun i => cp_LE ki fs T bk (fs b + i)) j').length + (cp_LE ki fs T bk (fs b + j')).length ∧
        ∀ post J, wX_pathEdge_122 post J x2 (nI b) (nI rest) x6 (nI (fs b + j')) f_drafted f_blocks f_edges f_probed f_paths f_fresh f_x f_y f_steps a_op a_with a_kind a_target a_from a_to a_exit a_weights a_inTree a_back a_first a_probes a_joined a_order a_ahead a_met a_way a_ways a_adds a_begins a_hits a_cuts a_gone a_runs a_version a_counts a_known → wX_pathEdge_87 post J x2 (nI b) (nI rest) x6 f_drafted f_blocks f_edges f_probed f_paths f_fresh f_x f_y f_steps a_op a_with a_kind a_target a_from a_to a_exit a_weights a_inTree a_back a_first a_probes a_joined a_order a_ahead a_met a_way a_ways a_adds a_begins a_hits a_cuts a_gone a_runs a_version a_counts a_known (r + 1) (nI (fs b + j)) := by
  have hnb := G.2.1
  have hne := cg_ne G
  have hfs := (G.2.2.2.1 b hb).2
  have hfle := cg_mono G (a := b + 1) nb (by omega) (Nat.le_refl _)
  have hff := hfi (b + 1) (by omega)
  have hLB := cp_eq G D hb hm
  have hin : vp_in (nI b + 1) 13 := pk_in (b + 1) 13 (by omega) (hx := nI_1 b)
  have hrd : a_first (nI b + 1).toNatClampNeg = nI (fs (b + 1)) := cd_rd (nI_1 b) (by omega) hff
  intro r
  induction r with
  | zero =>
    intro j hj hle
    refine ⟨j, by omega, hle, ?_, fun post J hp => And.intro hin (br_t (by rw [hrd, nI_1]; exact nI_le (by omega) (by omega)) hp)⟩
    have h1 := cp_fls (f := fun i => cp_LE ki fs T bk (fs b + i)) (n := j)
    rw [hLB, show cg_ex (ki b) = j + 1 by omega, h1] at hr
    exact hr
  | succ r ih =>
    intro j hj hle
    obtain ⟨a, a1, a2, a3⟩ := hX.2.2 b (j + 1) hb hm (by omega)
    have hfl := cp_fle (f := fun i => cp_LE ki fs T bk (fs b + i)) (j := j + 1) (cg_ex (ki b)) (by omega)
    rw [← hLB] at hfl
    have ha : a = (cp_fl (fun i => cp_LE ki fs T bk (fs b + i)) (j + 1)).length := cp_sre a3 (by omega)
    have hls := cp_fls (f := fun i => cp_LE ki fs T bk (fs b + i)) (n := j)
    have hrd2 : a_adds (nI (fs b + j) + 1).toNatClampNeg = nI a := cd_rd (nI_1 _) (by omega) a2
    have hng : ¬ a_first (nI b + 1).toNatClampNeg ≤ nI (fs b + j) + 1 := by rw [hrd, nI_1]; exact nI_ge (by omega) (by omega)
    have hv : vp_in (nI (fs b + j) + 1) 37 := pk_in (fs b + j + 1) 37 (by omega) (hx := nI_1 _)
    by_cases hc : rest < a
    · refine ⟨j, by omega, hle, by omega, fun post J hp => And.intro hin (br_f hng ⟨hv, br_t ?_ hp⟩)⟩
      rw [hrd2]; exact nI_lt hc (by omega)
    · obtain ⟨j', q1, q2, q3, q4⟩ := ih (j + 1) (by omega) (by omega)
      refine ⟨j', q1, q2, q3, fun post J hp => And.intro hin (br_f hng ⟨hv, br_f ?_ (nm_r (nI_1 _) (q4 post J hp))⟩)⟩
      rw [hrd2]; exact nI_nlt (by omega) (by omega)
/-- from a block on: the edge with number i of the path -/
theorem ck_74 {nb i : Nat} {ki fs F T m bk rk : Nat → Nat} (G : cg_GR nb ki fs F T) (D : cg_DF nb ki fs T m bk rk) (hfi : ∀ b, b ≤ nb → a_first b = nI (fs b)) (hto : ∀ e, e < fs nb + 1 → a_to e = nI (T e)) (hba : ∀ e, e < fs nb + 1 → a_back e = nI (bk e)) (hX : cr_PX nb ki fs T m bk f_paths a_adds a_begins) (hi : i < 2 ^ 31) (P : List Nat) (hP : P.length ≤ 12) :
    ∀ b, b < nb → m b = 2 → ∀ (pi sg : List Nat) rest, (cp_LB ki fs T bk b).length ≤ 300 → (cp_LB ki fs T bk b)[rest]? = some sg → P = pi ++ sg → pi.length ≤ i →
      ∀ post : Int32 → Prop, post (ck_o P[i]?) → ∃ n, wX_pathEdge_74 post (nI i) f_drafted f_blocks f_edges f_probed f_paths f_fresh f_x f_y f_steps a_op a_with a_kind a_target a_from a_to a_exit a_weights a_inTree a_back a_first a_probes a_joined a_order a_ahead a_met a_way a_ways a_adds a_begins a_hits a_cuts a_gone a_runs a_version a_counts a_known n (nI b) (nI rest) 1 (nI pi.length) := by
  have hnb := G.2.1
  have hne := cg_ne G
  refine cp_ind D _ (fun b hb hm ih => ?_)
  intro pi sg rest hL hsg hPe hpi post hp
  have hrest := (List.getElem?_eq_some_iff.mp hsg).1
  have hx3 := (cg_ex1 (ki b))
  obtain ⟨j, q1, q2, q3, q4⟩ := ck_87 (f_drafted := f_drafted) (f_blocks := f_blocks) (f_edges := f_edges) (f_probed := f_probed) (f_paths := f_paths) (f_fresh := f_fresh) (f_x := f_x) (f_y := f_y) (f_steps := f_steps) (a_op := a_op) (a_with := a_with) (a_kind := a_kind) (a_target := a_target) (a_from := a_from) (a_to := a_to) (a_exit := a_exit) (a_weights := a_weights) (a_inTree := a_inTree) (a_back := a_back) (a_first := a_first) (a_probes := a_probes) (a_joined := a_joined) (a_order := a_order) (a_ahead := a_ahead) (a_met := a_met) (a_way := a_way) (a_ways := a_ways) (a_adds := a_adds) (a_begins := a_begins) (a_hits := a_hits) (a_cuts := a_cuts) (a_gone := a_gone) (a_runs := a_runs) (a_version := a_version) (a_counts := a_counts) (a_known := a_known) (rest := rest) G D hfi hX hb hm hL hrest (nI i) (nI pi.length) (cg_ex (ki b) - 1) 0 (by omega) (Nat.zero_le _)
  have hlt := cg_lt G hb q1
  have hLB := cp_eq G D hb hm
  -- the path goes on with edge e
  generalize hfl : (cp_fl (fun i => cp_LE ki fs T bk (fs b + i)) j).length = f at *
  have hat := cp_at (f := fun i => cp_LE ki fs T bk (fs b + i)) (j := j) (r := rest - f) (by show _ < (cp_LE ki fs T bk (fs b + j)).length; omega) (cg_ex (ki b)) q1
  rw [← hLB, hfl, show f + (rest - f) = rest by omega, hsg] at hat
  obtain ⟨a, a1, a2, a3⟩ := hX.2.2 b j hb hm q1
  rw [hfl] at a3
  have ha : a = f := cp_sre a3 (by omega)
  have hbk01 : bk (fs b + j) ≤ 1 := by rcases cg_bk G D (e := fs b + j) (by omega) with h | ⟨h, _⟩ <;> omega
  have hbk := hba (fs b + j) (by omega)
  have htj := hto (fs b + j) (by omega)
  have hT12 := (cg_FT12 G (e := fs b + j) (by omega)).2
  have hPl : P.length = pi.length + sg.length := by rw [hPe, List.length_append]
  have entry : ∀ n, (wX_pathEdge_122 post (wX_pathEdge_74 post (nI i) f_drafted f_blocks f_edges f_probed f_paths f_fresh f_x f_y f_steps a_op a_with a_kind a_target a_from a_to a_exit a_weights a_inTree a_back a_first a_probes a_joined a_order a_ahead a_met a_way a_ways a_adds a_begins a_hits a_cuts a_gone a_runs a_version a_counts a_known n) (nI i) (nI b) (nI rest) (nI pi.length) (nI (fs b + j)) f_drafted f_blocks f_edges f_probed f_paths f_fresh f_x f_y f_steps a_op a_with a_kind a_target a_from a_to a_exit a_weights a_inTree a_back a_first a_probes a_joined a_order a_ahead a_met a_way a_ways a_adds a_begins a_hits a_cuts a_gone a_runs a_version a_counts a_known) → wX_pathEdge_74 post (nI i) f_drafted f_blocks f_edges f_probed f_paths f_fresh f_x f_y f_steps a_op a_with a_kind a_target a_from a_to a_exit a_weights a_inTree a_back a_first a_probes a_joined a_order a_ahead a_met a_way a_ways a_adds a_begins a_hits a_cuts a_gone a_runs a_version a_counts a_known (n + 1) (nI b) (nI rest) 1 (nI pi.length) := fun n h =>
    br_f (by decide) ⟨vp_in_nI (by omega) (by omega), nm_r (cd_rd rfl (by omega) (hfi b (by omega))) ⟨_, q4 post _ h⟩⟩
  have hhead : sg[0]? = some (fs b + j) := by
    have hmem : sg ∈ cp_LE ki fs T bk (fs b + j) := List.mem_of_getElem? hat.symm
    have := cp_LEh hmem
    rw [List.head?_eq_getElem?] at this; exact this
  by_cases hpe : pi.length = i
  · refine ⟨1, entry 0 (br_t (congrArg nI hpe) ?_)⟩
    have : P[i]? = some (fs b + j) := by
      rw [hPe, ← hpe, List.getElem?_append_right (Nat.le_refl _), Nat.sub_self]; exact hhead
    rw [this] at hp; exact hp
  · have hne' : ¬ nI pi.length = nI i := fun h => hpe (cd_im h (by omega) hi)
    have hsub : nI rest - a_adds (nI (fs b + j)).toNatClampNeg = nI (rest - f) := by rw [cd_rd rfl (by omega) a2, ha]; exact pk_sub q2
    by_cases he : bk (fs b + j) = 1 ∨ T (fs b + j) = 12
    · have hsg1 : sg = [fs b + j] := by
        have hmem : sg ∈ cp_LE ki fs T bk (fs b + j) := List.mem_of_getElem? hat.symm
        rw [cp_LEe he] at hmem; exact List.mem_singleton.mp hmem
      have hnone : P[i]? = none := List.getElem?_eq_none (by rw [hPl, hsg1, List.length_singleton]; omega)
      rw [hnone] at hp
      have fin : ∀ x4 x6, wX_pathEdge_74 post (nI i) f_drafted f_blocks f_edges f_probed f_paths f_fresh f_x f_y f_steps a_op a_with a_kind a_target a_from a_to a_exit a_weights a_inTree a_back a_first a_probes a_joined a_order a_ahead a_met a_way a_ways a_adds a_begins a_hits a_cuts a_gone a_runs a_version a_counts a_known 1 (nI b) x4 0 x6 := fun _ _ => br_t rfl hp
      refine ⟨2, entry 1 (br_f hne' (nm_r (nI_1 _) ⟨vp_in_nI (by omega) (by omega), nm_r hsub ⟨vp_in_nI (by omega) (by omega), ?_⟩⟩))⟩
      by_cases hb0 : bk (fs b + j) = 0
      · refine br_t (by rw [cd_rd rfl (by omega) hbk, hb0]; rfl) ⟨vp_in_nI (by omega) (by omega), br_t ?_ (br_t rfl (fin _ _))⟩
        rw [cd_rd rfl (by omega) htj, show T (fs b + j) = 12 by omega]; decide
      · exact br_f (by rw [cd_rd rfl (by omega) hbk]; exact nI_ne0 (by omega) (by omega)) (br_t rfl (fin _ _))
    · have he1 : bk (fs b + j) ≠ 1 := fun h => he (Or.inl h)
      have he2 : T (fs b + j) ≠ 12 := fun h => he (Or.inr h)
      have hLEl : (cp_LE ki fs T bk (fs b + j)).length = (cp_LB ki fs T bk (T (fs b + j))).length := by rw [cp_LEn he1 he2, List.length_map]
      have hflb := cp_flb (f := fun i => cp_LE ki fs T bk (fs b + i)) q1
      rw [← hLB] at hflb
      have hat2 : (cp_LB ki fs T bk (T (fs b + j)))[rest - f]?.map (fun p => (fs b + j) :: p) = some sg := by
        rw [← List.getElem?_map, ← cp_LEn he1 he2]; exact hat.symm
      obtain ⟨sg', s1, s2⟩ := Option.map_eq_some_iff.mp hat2
      obtain ⟨n, hn⟩ := ih j q1 he1 he2 (pi ++ [fs b + j]) sg' (rest - f) (by rw [← hLEl]; omega) s1 (by rw [hPe, ← s2]; simp) (by rw [List.length_append, List.length_singleton]; omega) post hp
      rw [List.length_append, List.length_singleton] at hn
      refine ⟨n + 1, entry n (br_f hne' (nm_r (nI_1 _) ⟨vp_in_nI (by omega) (by omega), nm_r hsub ⟨vp_in_nI (by omega) (by omega), br_t ?_ ⟨vp_in_nI (by omega) (by omega), br_f ?_ (br_f (by decide) ⟨vp_in_nI (by omega) (by omega), nm_r (cd_rd rfl (by omega) htj) hn⟩)⟩⟩⟩))⟩
      · rw [cd_rd rfl (by omega) hbk, show bk (fs b + j) = 0 by omega]; rfl
      · rw [cd_rd rfl (by omega) htj]; exact nI_ge (b := 12) (by omega) (by omega)
/-- where the path begins -/
theorem ck_19 {nb q : Nat} {ki fs F T m bk rk : Nat → Nat} (G : cg_GR nb ki fs F T) (hB : f_blocks = nI nb) (hX : cr_PX nb ki fs T m bk f_paths a_adds a_begins) (hL : (cp_LL nb ki fs T bk nb).length ≤ 300) (hq : q < (cp_LL nb ki fs T bk nb).length) (x2 : Int32) :
    ∀ r c b, c + r = nb → 1 ≤ c → b < c → cp_s T bk (fs nb + 1) b = 1 → (cp_LL nb ki fs T bk b).length ≤ q → (∀ b', b' < c → cp_s T bk (fs nb + 1) b' = 1 → (cp_LL nb ki fs T bk b').length ≤ q → b' ≤ b) →
      ∃ b0, b0 < nb ∧ cp_s T bk (fs nb + 1) b0 = 1 ∧ (cp_LL nb ki fs T bk b0).length ≤ q ∧ q < (cp_LL nb ki fs T bk b0).length + (cp_LB ki fs T bk b0).length ∧
        ∀ post : Int32 → Prop, (∃ n74 : Nat, wX_pathEdge_74 post x2 f_drafted f_blocks f_edges f_probed f_paths f_fresh f_x f_y f_steps a_op a_with a_kind a_target a_from a_to a_exit a_weights a_inTree a_back a_first a_probes a_joined a_order a_ahead a_met a_way a_ways a_adds a_begins a_hits a_cuts a_gone a_runs a_version a_counts a_known n74 (nI b0) (nI (q - (cp_LL nb ki fs T bk b0).length)) 1 0) → wX_pathEdge_19 post (nI q) x2 f_drafted f_blocks f_edges f_probed f_paths f_fresh f_x f_y f_steps a_op a_with a_kind a_target a_from a_to a_exit a_weights a_inTree a_back a_first a_probes a_joined a_order a_ahead a_met a_way a_ways a_adds a_begins a_hits a_cuts a_gone a_runs a_version a_counts a_known (r + 1) (nI b) (nI c) := by
  have hnb := G.2.1
  have hst : ∀ b, b < nb → cp_s T bk (fs nb + 1) b = 1 → a_begins b = nI (cp_LL nb ki fs T bk b).length := by
    intro b hb hs
    obtain ⟨s, s1, s2, s3⟩ := (hX.2.1 b hb).1 hs
    have hle : (cp_LL nb ki fs T bk b).length ≤ (cp_LL nb ki fs T bk nb).length := cp_fle (f := cp_B nb ki fs T bk) nb (by omega)
    rw [s2, cp_sre s3 (by omega)]
  intro r
  induction r with
  | zero =>
    intro c b hc h1 hbc hs hle hmax
    have e1 : c = nb := by omega
    subst e1
    refine ⟨b, hbc, hs, hle, ?_, fun post hp => br_t (by rw [hB]; exact nI_le (Nat.le_refl _) (by omega)) ⟨vp_in_nI (by omega) (by omega), nm_r (e' := nI (q - (cp_LL c ki fs T bk b).length)) ?_ hp⟩⟩
    · obtain ⟨b0, p1, p2, p3⟩ := cp_fnd (f := cp_B c ki fs T bk) c hq
      have hs0 : cp_s T bk (fs c + 1) b0 = 1 := by
        rcases cp_s01 T bk (fs c + 1) b0 with h | h
        · have : cp_B c ki fs T bk b0 = [] := if_neg (by omega)
          rw [this, List.length_nil] at p3; omega
        · exact h
      have hB0 : cp_B c ki fs T bk b0 = cp_LB ki fs T bk b0 := if_pos hs0
      have hle0 := hmax b0 p1 hs0 p2
      by_cases e : b0 = b
      · rw [← e, ← hB0]; exact p3
      · have := cp_fle (f := cp_B c ki fs T bk) (j := b0 + 1) b (by omega)
        rw [cp_fls] at this
        unfold cp_LL at hle
        omega
    · rw [cd_rd rfl (by omega) (hst b hbc hs)]; exact pk_sub hle
  | succ r ih =>
    intro c b hc h1 hbc hs hle hmax
    have g1 : ¬ f_blocks ≤ nI c := by rw [hB]; exact nI_ge (by omega) (by omega)
    have hv : vp_in (nI c) 12 := vp_in_nI (by omega) (by omega)
    rcases cp_s01 T bk (fs nb + 1) c with h | h
    · obtain ⟨b0, p1, p2, p3, p4, p5⟩ := ih (c + 1) b (by omega) (by omega) (by omega) hs hle (fun b' hb' hs' hl' => by
        have : b' ≠ c := by intro e; subst e; omega
        exact hmax b' (by omega) hs' hl')
      refine ⟨b0, p1, p2, p3, p4, fun post hp => br_f g1 ⟨hv, br_t ?_ (nm_r (nI_1 c) (p5 post hp))⟩⟩
      rw [cd_rd rfl (by omega) ((hX.2.1 c (by omega)).2 h)]; decide
    · have hcb := hst c (by omega) h
      have hlen : (cp_LL nb ki fs T bk c).length ≤ (cp_LL nb ki fs T bk nb).length := cp_fle (f := cp_B nb ki fs T bk) nb (by omega)
      have g2 : ¬ a_begins (nI c).toNatClampNeg < 0 := by rw [cd_rd rfl (by omega) hcb]; exact nI_pos (by omega)
      by_cases hlt : q < (cp_LL nb ki fs T bk c).length
      · obtain ⟨b0, p1, p2, p3, p4, p5⟩ := ih (c + 1) b (by omega) (by omega) (by omega) hs hle (fun b' hb' hs' hl' => by
          have : b' ≠ c := by intro e; subst e; omega
          exact hmax b' (by omega) hs' hl')
        refine ⟨b0, p1, p2, p3, p4, fun post hp => br_f g1 ⟨hv, br_f g2 ⟨hv, br_t ?_ (nm_r (nI_1 c) (p5 post hp))⟩⟩⟩
        rw [cd_rd rfl (by omega) hcb]; exact nI_lt hlt (by omega)
      · obtain ⟨b0, p1, p2, p3, p4, p5⟩ := ih (c + 1) c (by omega) (by omega) (by omega) h (by omega) (fun b' hb' _ _ => by omega)
        refine ⟨b0, p1, p2, p3, p4, fun post hp => br_f g1 ⟨hv, br_f g2 ⟨hv, br_f ?_ (nm_r (nI_1 c) (p5 post hp))⟩⟩⟩
        rw [cd_rd rfl (by omega) hcb]; exact nI_nlt (by omega) (by omega)
end
end
section
theorem i_vc_pathEdge {k : Nat} {u : SX} {v : SY} (I : i_Rel k u v) (hk : k + 6 ≤ 3072) (v1 : Int32) (v2 : Int32) : wpX_pathEdge (fun r => wpY_pathEdge (fun r' => r' = r ∧ i_Rel (k + 6) u v) v v1 v2) u v1 v2 := by
  revert I
  refine cr_el (P := fun u v => i_Rel k u v → wpX_pathEdge (fun r => wpY_pathEdge (fun r' => r' = r ∧ i_Rel (k + 6) u v) v v1 v2) u v1 v2) ?_ u v
  intro f_drafted f_blocks f_edges f_probed f_paths f_fresh f_x f_y f_steps a_op a_with a_kind a_target a_from a_to a_exit a_weights a_inTree a_back a_first a_probes a_joined a_order a_ahead a_met a_way a_ways a_adds a_begins a_hits a_cuts a_gone a_runs a_version a_counts a_known g_made g_blocks g_edges g_paths g_many g_lastX g_lastY g_lastBlocks b_op b_number b_kind b_target b_from b_to b_exit b_weight b_firstEdge b_tree b_back b_row b_length b_gone b_done b_went b_cut b_kept b_mark b_way b_tried b_stack
  intro I
  have I6 := i_up I
  obtain ⟨hD, hop, hxy, hV, hB⟩ := I
  rcases hB with ⟨b1, b2, b3, b4, b5, b6, b7⟩ | ⟨nb, ki, fs, F, T, bk, m, rk, tr, ⟨G, ⟨e1, e2, e3, e4⟩, e5, e6, e7, e8⟩, hK, hDF, hPX, hPY, hw, hT, hS, hS2, hfr⟩
  · subst b1 b5
    unfold wpX_pathEdge wpX_isPath
    refine br_t (by decide) (br_t rfl ?_)
    exact br_t (by decide) ⟨rfl, I6⟩
  · have hnb := G.2.1
    have hnb1 := G.1
    have hne := cg_ne G
    have hf : ¬ f_blocks ≤ 0 := by rw [e1]; exact nI_nle (by omega) (by omega)
    have hg : ¬ g_edges ≤ 0 := by rw [e4]; exact nI_nle (by omega) (by omega)
    rcases cr_PP hPX hPY with ⟨y1, y2, y3, y4, y5⟩ | ⟨y1, y2, y3, pp, y4, y5, y6⟩
    · have hPX' := hPX
      subst y3 y4
      rcases cw_in v1 (cp_LL nb ki fs T bk nb).length (by omega) (cw_pM (by omega)) with ⟨j, hj, rfl, hX, hY⟩ | ⟨_, hX, hY⟩
      · obtain ⟨P, p1, p2, p3, p4⟩ := y5 j hj
        have yent : ∀ post : Int32 → Prop, wpY_in (fun r_6 => ((r_6 = 0 → post (-1)) ∧ (¬ r_6 = 0 → (vp_in (12 * nI j + v2) 3600 ∧ post (b_row (12 * nI j + v2).toNatClampNeg))))) v2 0 (nI P.length - 1) → wpY_pathEdge post (g_made, g_blocks, g_edges, nI (cp_LL nb ki fs T bk nb).length, g_many, g_lastX, g_lastY, g_lastBlocks, b_op, b_number, b_kind, b_target, b_from, b_to, b_exit, b_weight, b_firstEdge, b_tree, b_back, b_row, b_length, b_gone, b_done, b_went, b_cut, b_kept, b_mark, b_way, b_tried, b_stack) (nI j) v2 := by
          intro post hp
          unfold wpY_pathEdge
          refine br_f hg (br_t y1 ?_)
          refine hY _ ?_
          refine br_f (by decide) ⟨vp_in_nI (by omega) (by omega), ?_⟩
          rw [cd_rd rfl (by omega) p3]; exact hp
        unfold wpX_pathEdge wpX_isPath
        refine br_f hf (br_f (nI_nlt (a := 300) y2 (by omega)) (hX _ (br_f (by decide) (br_f (by decide) ?_))))
        by_cases h0 : (0 : Int32) ≤ v2
        · obtain ⟨i, hi, rfl⟩ := nI_of (x := v2) (Int32.not_lt.mpr h0)
          obtain ⟨b0, s1, s2, s3, s4, s5⟩ := ck_19 (f_drafted := f_drafted) (f_blocks := f_blocks) (f_edges := f_edges) (f_probed := f_probed) (f_fresh := f_fresh) (f_x := f_x) (f_y := f_y) (f_steps := f_steps) (a_op := a_op) (a_with := a_with) (a_kind := a_kind) (a_target := a_target) (a_from := a_from) (a_to := a_to) (a_exit := a_exit) (a_weights := a_weights) (a_inTree := a_inTree) (a_back := a_back) (a_first := a_first) (a_probes := a_probes) (a_joined := a_joined) (a_order := a_order) (a_ahead := a_ahead) (a_met := a_met) (a_way := a_way) (a_ways := a_ways) (a_adds := a_adds) (a_begins := a_begins) (a_hits := a_hits) (a_cuts := a_cuts) (a_gone := a_gone) (a_runs := a_runs) (a_version := a_version) (a_counts := a_counts) (a_known := a_known) (f_paths := nI (cp_LL nb ki fs T bk nb).length) (q := j) (rk := rk) G e1 hPX' y2 hj (nI i) (nb - 1) 1 0 (by omega) (by omega) (by omega) ((cp_s1 T bk _ 0).mpr (Or.inl rfl)) (Nat.zero_le _) (fun b' hb' _ _ => by omega)
          obtain ⟨sb, smb⟩ := cp_sm G hDF s2
          have hB0 : cp_B nb ki fs T bk b0 = cp_LB ki fs T bk b0 := if_pos s2
          have hat := cp_at (f := cp_B nb ki fs T bk) (j := b0) (r := j - (cp_LL nb ki fs T bk b0).length) (by rw [hB0]; omega) nb s1
          rw [hB0] at hat
          have hat' : (cp_LB ki fs T bk b0)[j - (cp_LL nb ki fs T bk b0).length]? = some P := by
            rw [← hat, ← p1]
            show (cp_LL nb ki fs T bk nb)[(cp_LL nb ki fs T bk b0).length + (j - (cp_LL nb ki fs T bk b0).length)]? = _
            rw [show (cp_LL nb ki fs T bk b0).length + (j - (cp_LL nb ki fs T bk b0).length) = j by omega]
          have hLBl : (cp_LB ki fs T bk b0).length ≤ 300 := by
            have := cp_flb (f := cp_B nb ki fs T bk) (j := b0) (n := nb) s1
            rw [hB0] at this
            show _ ≤ 300
            unfold cp_LL at y2
            omega
          refine br_t h0 ⟨_, s5 _ (ck_74 (f_drafted := f_drafted) (f_blocks := f_blocks) (f_edges := f_edges) (f_probed := f_probed) (f_fresh := f_fresh) (f_x := f_x) (f_y := f_y) (f_steps := f_steps) (a_op := a_op) (a_with := a_with) (a_kind := a_kind) (a_target := a_target) (a_from := a_from) (a_to := a_to) (a_exit := a_exit) (a_weights := a_weights) (a_inTree := a_inTree) (a_back := a_back) (a_first := a_first) (a_probes := a_probes) (a_joined := a_joined) (a_order := a_order) (a_ahead := a_ahead) (a_met := a_met) (a_way := a_way) (a_ways := a_ways) (a_adds := a_adds) (a_begins := a_begins) (a_hits := a_hits) (a_cuts := a_cuts) (a_gone := a_gone) (a_runs := a_runs) (a_version := a_version) (a_counts := a_counts) (a_known := a_known) (f_paths := nI (cp_LL nb ki fs T bk nb).length) (i := i) G hDF e7 (fun e he => (e6 e he).2.2.1) (fun e he => (hK e he).1) hPX' hi P p2 b0 sb smb [] P _ hLBl hat' rfl (Nat.zero_le _) _ ?_)⟩
          refine yent _ ?_
          rcases cw_in (nI i) P.length (by omega) (cw_pM (n := P.length) (by omega)) with ⟨i', hi', ei, _, hY2⟩ | ⟨hno, _, hY2⟩
          · have ei' : i = i' := cd_im ei hi (by omega)
            subst ei'
            refine hY2 _ ?_
            refine br_f (by decide) ⟨pk_in (12 * j + i) 3600 (by omega) (hx := cw_ix 12 j i), ?_, I6⟩
            have hgi : P[i]? = some P[i] := List.getElem?_eq_getElem hi'
            rw [hgi]
            exact cd_rd (cw_ix 12 j i) (by omega) (p4 i _ hgi)
          · refine hY2 _ ?_
            refine br_t rfl ⟨?_, I6⟩
            have : P[i]? = none := List.getElem?_eq_none (by
              rcases Nat.lt_or_ge i P.length with h | h
              · exact absurd rfl (hno i h)
              · exact h)
            rw [this]; rfl
        · refine br_f h0 ?_
          refine yent _ ?_
          exact br_t (Int32.not_le.mp h0) (br_t rfl ⟨rfl, I6⟩)
      · unfold wpX_pathEdge wpX_isPath
        refine br_f hf (br_f (nI_nlt (a := 300) y2 (by omega)) (hX _ (br_t rfl (br_t rfl ?_))))
        unfold wpY_pathEdge
        refine br_f hg (br_t y1 ?_)
        refine hY _ ?_
        exact br_t rfl ⟨rfl, I6⟩
    · subst y6
      unfold wpX_pathEdge wpX_isPath
      refine br_f hf (br_t (nI_lt (a := 300) y4 (by omega)) (br_t rfl ?_))
      exact br_f hg (br_f (by rw [y1]; decide) ⟨rfl, I6⟩)
end
section
/-! solve: the counts of the tree's edges follow -/
theorem cs_n1 {n o o' : Nat} {f : Nat → Nat} (h : cs_n n f = 1) (ho : o < n) (ho' : o' < n) (h1 : f o = 1) (h2 : f o' = 1) : o' = o := by
  by_cases e : o' = o
  · exact e
  · have h3 := cs_np (n := n) (k := o) (f := f) (g := cs_u f o 0) ho (fun i _ hi => (cs_un hi).symm)
    rw [cs_us] at h3
    have h4 : cs_n n (cs_u f o 0) = 0 := by omega
    have h5 := cs_n0 h4 o' ho'
    rw [cs_un e] at h5
    omega
theorem cs_n1' {n o : Nat} {f : Nat → Nat} (ho : o < n) (h1 : f o = 1) (h : ∀ i, i < n → i ≠ o → f i = 0) : cs_n n f = 1 := by
  have h3 := cs_np (n := n) (k := o) (f := f) (g := fun _ => 0) ho (fun i hi hn => h i hi hn)
  rw [cs_nz (f := fun _ => 0) (fun _ _ => rfl)] at h3
  omega
/-- an open edge at place p -/
def cv_op (F T kn : Nat → Nat) (p e : Nat) : Nat := if (F e = p ∨ T e = p) ∧ kn e = 0 then 1 else 0
def cv_d (F T : Nat → Nat) (g : Nat → Int32) (p e : Nat) : Int32 := (if T e = p then g e else 0) - (if F e = p then g e else 0)
def cv_t (F T kn : Nat → Nat) (g : Nat → Int32) (p e : Nat) : Int32 := if kn e = 0 then 0 else cv_d F T g p e
/-- what is known: kn 1, with the count that the reference has -/
def cv_K (ne : Nat) (tr kn : Nat → Nat) (g counts known : Nat → Int32) : Prop := ∀ e, e < ne → kn e ≤ 1 ∧ known e = nI (kn e) ∧ (kn e = 1 → counts e = g e) ∧ (kn e = 0 → tr e = 1)
def cv_uq (ne : Nat) (F T kn : Nat → Nat) (p : Nat) : Prop := ∃ o, o < ne ∧ kn o = 0 ∧ ct_ic F T o p ∧ ∀ x, x < ne → kn x = 0 → ct_ic F T x p → x = o
section
variable {f_drafted f_blocks f_edges f_probed f_paths f_fresh f_x f_y f_steps : Int32} {a_op a_with a_kind a_target a_from a_to a_exit a_weights a_inTree a_back a_first a_probes a_joined a_order a_ahead a_met a_way a_ways a_adds a_begins a_hits a_cuts a_gone a_runs a_version a_counts a_known : Nat → Int32}
theorem cv_26 {nb p : Nat} (hnb : nb ≤ 12) (hp : p ≤ 12) (hB : f_blocks = nI nb) (post : Int32 → SX → Prop) (h : ∃ n62 : Nat, wX_balance_62 post (nI p) f_drafted f_blocks f_edges f_probed f_paths f_fresh f_x f_y f_steps a_op a_with a_kind a_target a_from a_to a_exit a_weights a_inTree a_back a_first a_probes a_joined a_order a_ahead a_met a_way a_ways a_adds a_begins a_hits a_cuts a_gone a_runs a_version a_counts a_known n62 (-1) 0 (- cf_c nb a_cuts p) 0) : wpX_balance post (f_drafted, f_blocks, f_edges, f_probed, f_paths, f_fresh, f_x, f_y, f_steps, a_op, a_with, a_kind, a_target, a_from, a_to, a_exit, a_weights, a_inTree, a_back, a_first, a_probes, a_joined, a_order, a_ahead, a_met, a_way, a_ways, a_adds, a_begins, a_hits, a_cuts, a_gone, a_runs, a_version, a_counts, a_known) (nI p) := by
  by_cases h12 : p = 12
  · subst h12
    have lp : ∀ r b, b + r = nb → wX_balance_26 post (nI 12) (-1) 0 f_drafted f_blocks f_edges f_probed f_paths f_fresh f_x f_y f_steps a_op a_with a_kind a_target a_from a_to a_exit a_weights a_inTree a_back a_first a_probes a_joined a_order a_ahead a_met a_way a_ways a_adds a_begins a_hits a_cuts a_gone a_runs a_version a_counts a_known (r + 1) (cs_i b a_cuts) (nI b) := by
      intro r
      induction r with
      | zero =>
        intro b hb
        have e1 : b = nb := by omega
        subst e1
        refine br_t (by rw [hB]; exact nI_le (Nat.le_refl _) (by omega)) ?_
        have e : - cf_c b a_cuts 12 = cs_i b a_cuts := by
          unfold cf_c; rw [if_pos rfl]; exact Int32.neg_neg
        rw [e] at h; exact h
      | succ r ih =>
        intro b hb
        refine br_f (by rw [hB]; exact nI_ge (by omega) (by omega)) (br_t rfl ⟨vp_in_nI (by omega) (by omega), nm_r (e' := cs_i (b + 1) a_cuts) ?_ (nm_r (nI_1 b) (ih (b + 1) (by omega)))⟩)
        rw [nI_clamp (by omega)]; rfl
    exact br_t (by decide) ⟨_, lp nb 0 (by omega)⟩
  · have e : - cf_c nb a_cuts p = -(a_cuts p) := by unfold cf_c; rw [if_neg h12]
    rw [e] at h
    refine br_f (nI_ge (b := 12) (by omega) (by omega)) ⟨vp_in_nI (by omega) (by omega), nm_r (e' := -(a_cuts p)) (by rw [nI_clamp (by omega)]) ⟨1, br_c (fun _ => h) (fun _ => br_f (fun h' => h12 (cd_im (b := 12) h' (by omega) (by omega))) h)⟩⟩
/-- the loop over the edges of a place -/
theorem cv_62 {nb p : Nat} {ki fs F T kn tr : Nat → Nat} {g : Nat → Int32} (G : cg_GR nb ki fs F T) (hp : p ≤ 12) (hE : f_edges = nI (fs nb + 1)) (hfr : ∀ e, e < fs nb + 1 → a_from e = nI (F e)) (hto : ∀ e, e < fs nb + 1 → a_to e = nI (T e)) (K : cv_K (fs nb + 1) tr kn g a_counts a_known) (z : Int32) :
    ∀ r e x2, e + r = fs nb + 1 → (1 ≤ cs_n e (cv_op F T kn p) → ∃ o, o < e ∧ x2 = nI o ∧ cv_op F T kn p o = 1) →
      (cs_n (fs nb + 1) (cv_op F T kn p) = 1 ∧ ∃ o, o < fs nb + 1 ∧ cv_op F T kn p o = 1 ∧ ∀ post : Int32 → SX → Prop, (∀ y : Int32, y = (if F o = p then z + cs_i (fs nb + 1) (cv_t F T kn g p) else -(z + cs_i (fs nb + 1) (cv_t F T kn g p))) → post 1 (f_drafted, f_blocks, f_edges, f_probed, f_paths, f_fresh, f_x, f_y, f_steps, a_op, a_with, a_kind, a_target, a_from, a_to, a_exit, a_weights, a_inTree, a_back, a_first, a_probes, a_joined, a_order, a_ahead, a_met, a_way, a_ways, a_adds, a_begins, a_hits, a_cuts, a_gone, a_runs, a_version, upd a_counts o y, upd a_known o 1)) →
          wX_balance_62 post (nI p) f_drafted f_blocks f_edges f_probed f_paths f_fresh f_x f_y f_steps a_op a_with a_kind a_target a_from a_to a_exit a_weights a_inTree a_back a_first a_probes a_joined a_order a_ahead a_met a_way a_ways a_adds a_begins a_hits a_cuts a_gone a_runs a_version a_counts a_known (r + 1) x2 (nI (cs_n e (cv_op F T kn p))) (z + cs_i e (cv_t F T kn g p)) (nI e)) ∨
      (cs_n (fs nb + 1) (cv_op F T kn p) ≠ 1 ∧ ∀ post : Int32 → SX → Prop, post 0 (f_drafted, f_blocks, f_edges, f_probed, f_paths, f_fresh, f_x, f_y, f_steps, a_op, a_with, a_kind, a_target, a_from, a_to, a_exit, a_weights, a_inTree, a_back, a_first, a_probes, a_joined, a_order, a_ahead, a_met, a_way, a_ways, a_adds, a_begins, a_hits, a_cuts, a_gone, a_runs, a_version, a_counts, a_known) → wX_balance_62 post (nI p) f_drafted f_blocks f_edges f_probed f_paths f_fresh f_x f_y f_steps a_op a_with a_kind a_target a_from a_to a_exit a_weights a_inTree a_back a_first a_probes a_joined a_order a_ahead a_met a_way a_ways a_adds a_begins a_hits a_cuts a_gone a_runs a_version a_counts a_known (r + 1) x2 (nI (cs_n e (cv_op F T kn p))) (z + cs_i e (cv_t F T kn g p)) (nI e)) := by
  have hne := cg_ne G
  have hcle : ∀ n, cs_n n (cv_op F T kn p) ≤ n := fun n => cs_nle (fun i _ => by unfold cv_op; split <;> omega)
  intro r
  induction r with
  | zero =>
    intro e x2 he hx
    have e1 : e = fs nb + 1 := by omega
    subst e1
    have hle := hcle (fs nb + 1)
    by_cases h1 : cs_n (fs nb + 1) (cv_op F T kn p) = 1
    · obtain ⟨o, o1, o2, o3⟩ := hx (by omega)
      refine Or.inl ⟨h1, o, o1, o3, fun post hpo => ?_⟩
      rw [o2]
      refine br_t (by rw [hE]; exact nI_le (Nat.le_refl _) (by omega)) (br_t (by rw [h1]; rfl) ⟨vp_in_nI (by omega) (by omega), ?_⟩)
      by_cases hF : F o = p
      · refine br_t (by rw [cd_rd rfl (by omega) (hfr o o1), hF]) (And.intro (vp_in_nI (by omega) (by omega)) (nm_r (cd_up rfl (by omega) rfl) ⟨vp_in_nI (by omega) (by omega), nm_r (cd_up rfl (by omega) cd_z1) (hpo _ ?_)⟩))
        rw [if_pos hF]
      · have := (cg_FT12 G o1).1
        refine br_f (by rw [cd_rd rfl (by omega) (hfr o o1)]; exact fun h => hF (cd_im h (by omega) (by omega))) (And.intro (vp_in_nI (by omega) (by omega)) (nm_r (cd_up rfl (by omega) rfl) ⟨vp_in_nI (by omega) (by omega), nm_r (cd_up rfl (by omega) cd_z1) (hpo _ ?_)⟩))
        rw [if_neg hF]
    · refine Or.inr ⟨h1, fun post hpo => ?_⟩
      exact br_t (by rw [hE]; exact nI_le (Nat.le_refl _) (by omega)) (br_f (fun h => h1 (cd_im (b := 1) h (by omega) (by omega))) hpo)
  | succ r ih =>
    intro e x2 he hx
    have hle := hcle e
    have hlt : e < fs nb + 1 := by omega
    obtain ⟨f1, f2⟩ := cg_FT12 G hlt
    obtain ⟨k1, k2, k3, k4⟩ := K e hlt
    have rF : a_from (nI e).toNatClampNeg = nI (F e) := cd_rd rfl (by omega) (hfr e hlt)
    have rT : a_to (nI e).toNatClampNeg = nI (T e) := cd_rd rfl (by omega) (hto e hlt)
    have rK : a_known (nI e).toNatClampNeg = nI (kn e) := cd_rd rfl (by omega) k2
    have hin : vp_in (nI e) 37 := vp_in_nI (by omega) (by omega)
    have hs1 : cs_n (e + 1) (cv_op F T kn p) = cs_n e (cv_op F T kn p) + cv_op F T kn p e := rfl
    have hs2 : cs_i (e + 1) (cv_t F T kn g p) = cs_i e (cv_t F T kn g p) + cv_t F T kn g p e := rfl
    have g1 : ¬ f_edges ≤ nI e := by rw [hE]; exact nI_ge hlt (by omega)
    -- what the head does with what comes behind it
    have head : ∀ (x2' : Int32), (cv_op F T kn p e = 1 → x2' = nI e) → (cv_op F T kn p e = 0 → x2' = x2) → ∀ post : Int32 → SX → Prop, wX_balance_62 post (nI p) f_drafted f_blocks f_edges f_probed f_paths f_fresh f_x f_y f_steps a_op a_with a_kind a_target a_from a_to a_exit a_weights a_inTree a_back a_first a_probes a_joined a_order a_ahead a_met a_way a_ways a_adds a_begins a_hits a_cuts a_gone a_runs a_version a_counts a_known (r + 1) x2' (nI (cs_n (e + 1) (cv_op F T kn p))) (z + cs_i (e + 1) (cv_t F T kn g p)) (nI (e + 1)) → wX_balance_62 post (nI p) f_drafted f_blocks f_edges f_probed f_paths f_fresh f_x f_y f_steps a_op a_with a_kind a_target a_from a_to a_exit a_weights a_inTree a_back a_first a_probes a_joined a_order a_ahead a_met a_way a_ways a_adds a_begins a_hits a_cuts a_gone a_runs a_version a_counts a_known (r + 1 + 1) x2 (nI (cs_n e (cv_op F T kn p))) (z + cs_i e (cv_t F T kn g p)) (nI e) := by
      intro x2' hx1 hx0 post h
      rw [hs1, hs2] at h
      by_cases hic : F e = p ∨ T e = p
      · have b93 : wX_balance_93 post (wX_balance_62 post (nI p) f_drafted f_blocks f_edges f_probed f_paths f_fresh f_x f_y f_steps a_op a_with a_kind a_target a_from a_to a_exit a_weights a_inTree a_back a_first a_probes a_joined a_order a_ahead a_met a_way a_ways a_adds a_begins a_hits a_cuts a_gone a_runs a_version a_counts a_known (r + 1)) (nI p) x2 (nI (cs_n e (cv_op F T kn p))) (z + cs_i e (cv_t F T kn g p)) (nI e) f_drafted f_blocks f_edges f_probed f_paths f_fresh f_x f_y f_steps a_op a_with a_kind a_target a_from a_to a_exit a_weights a_inTree a_back a_first a_probes a_joined a_order a_ahead a_met a_way a_ways a_adds a_begins a_hits a_cuts a_gone a_runs a_version a_counts a_known := by
          by_cases hk0 : kn e = 0
          · have o1 : cv_op F T kn p e = 1 := if_pos ⟨hic, hk0⟩
            have t0 : cv_t F T kn g p e = 0 := if_pos hk0
            rw [o1, t0, hx1 o1, Int32.add_zero] at h
            exact And.intro hin (br_t (by rw [rK, hk0]; rfl) (nm_r (nI_1 _) (nm_r (nI_1 e) h)))
          · have o0 : cv_op F T kn p e = 0 := if_neg (fun hh => hk0 hh.2)
            have t1 : cv_t F T kn g p e = cv_d F T g p e := if_neg hk0
            have hce : a_counts (nI e).toNatClampNeg = g e := cd_rd rfl (by omega) (k3 (by omega))
            rw [o0, t1, hx0 o0, Nat.add_zero] at h
            have b136 : ∀ z0 : Int32, z0 = (if T e = p then g e else 0) → wX_balance_136 post (wX_balance_62 post (nI p) f_drafted f_blocks f_edges f_probed f_paths f_fresh f_x f_y f_steps a_op a_with a_kind a_target a_from a_to a_exit a_weights a_inTree a_back a_first a_probes a_joined a_order a_ahead a_met a_way a_ways a_adds a_begins a_hits a_cuts a_gone a_runs a_version a_counts a_known (r + 1)) (nI p) x2 (nI (cs_n e (cv_op F T kn p))) (nI e) z0 (z + cs_i e (cv_t F T kn g p)) f_drafted f_blocks f_edges f_probed f_paths f_fresh f_x f_y f_steps a_op a_with a_kind a_target a_from a_to a_exit a_weights a_inTree a_back a_first a_probes a_joined a_order a_ahead a_met a_way a_ways a_adds a_begins a_hits a_cuts a_gone a_runs a_version a_counts a_known := by
              intro z0 hz0
              refine And.intro hin (pk_eq (F e) p (fun hF => ⟨hin, nm_r (e' := z + (cs_i e (cv_t F T kn g p) + cv_d F T g p e)) ?_ (nm_r (nI_1 e) h)⟩) (fun hF => nm_r (e' := z + (cs_i e (cv_t F T kn g p) + cv_d F T g p e)) ?_ (nm_r (nI_1 e) h)) (hx := rF))
              · unfold cv_d; rw [hce, hz0, if_pos hF]; grind
              · unfold cv_d; rw [hz0, if_neg hF]; grind
            refine And.intro hin (br_f (by rw [rK]; exact nI_ne0 (by omega) (by omega)) ⟨hin, pk_eq (T e) p (fun hT => ⟨hin, b136 _ (by rw [hce, if_pos hT])⟩) (fun hT => b136 0 (if_neg hT).symm) (hx := rT)⟩)
        refine br_f g1 ⟨hin, pk_eq (F e) p (fun _ => b93) (fun hF => ⟨hin, pk_eq (T e) p (fun _ => b93) (fun hT => absurd hic (fun hh => hh.elim hF hT)) (hx := rT)⟩) (hx := rF)⟩
      · have o0 : cv_op F T kn p e = 0 := if_neg (fun hh => hic hh.1)
        have hF : ¬ F e = p := fun hh => hic (Or.inl hh)
        have hT : ¬ T e = p := fun hh => hic (Or.inr hh)
        have t0 : cv_t F T kn g p e = 0 := by
          unfold cv_t; split
          · rfl
          · unfold cv_d; rw [if_neg hT, if_neg hF]; rfl
        rw [o0, t0, hx0 o0, Nat.add_zero, Int32.add_zero] at h
        exact br_f g1 ⟨hin, br_f (by rw [rF]; exact fun hh => hF (cd_im hh (by omega) (by omega))) ⟨hin, br_f (by rw [rT]; exact fun hh => hT (cd_im hh (by omega) (by omega))) (nm_r (nI_1 e) h)⟩⟩
    have hopn : cv_op F T kn p e = 0 ∨ cv_op F T kn p e = 1 := by unfold cv_op; split <;> omega
    rcases hopn with ho | ho
    · rcases ih (e + 1) x2 (by omega) (fun h => by
        obtain ⟨o, q1, q2, q3⟩ := hx (by omega)
        exact ⟨o, by omega, q2, q3⟩) with ⟨q0, o, q1, q2, q3⟩ | ⟨q1, q3⟩
      · exact Or.inl ⟨q0, o, q1, q2, fun post hpo => head x2 (fun h => by omega) (fun _ => rfl) post (q3 post hpo)⟩
      · exact Or.inr ⟨q1, fun post hpo => head x2 (fun h => by omega) (fun _ => rfl) post (q3 post hpo)⟩
    · rcases ih (e + 1) (nI e) (by omega) (fun h => ⟨e, by omega, rfl, ho⟩) with ⟨q0, o, q1, q2, q3⟩ | ⟨q1, q3⟩
      · exact Or.inl ⟨q0, o, q1, q2, fun post hpo => head (nI e) (fun _ => rfl) (fun h => by omega) post (q3 post hpo)⟩
      · exact Or.inr ⟨q1, fun post hpo => head (nI e) (fun _ => rfl) (fun h => by omega) post (q3 post hpo)⟩
/-- balance at a place -/
theorem cv_bal {nb p : Nat} {ki fs F T kn tr : Nat → Nat} {g : Nat → Int32} (G : cg_GR nb ki fs F T) (hp : p ≤ 12) (hB : f_blocks = nI nb) (hE : f_edges = nI (fs nb + 1)) (hfr : ∀ e, e < fs nb + 1 → a_from e = nI (F e)) (hto : ∀ e, e < fs nb + 1 → a_to e = nI (T e)) (K : cv_K (fs nb + 1) tr kn g a_counts a_known)
    (htr : ∀ e, e < fs nb + 1 → tr e = 1 → F e ≠ T e) (hbal : ∀ p, p < nb ∨ p = 12 → cf_bal nb (fs nb + 1) F T a_cuts g p = 0) :
    (∃ (o : Nat) (ct kw : Nat → Int32), o < fs nb + 1 ∧ kn o = 0 ∧ cv_K (fs nb + 1) tr (cs_u kn o 1) g ct kw ∧ ∀ post : Int32 → SX → Prop, post 1 (f_drafted, f_blocks, f_edges, f_probed, f_paths, f_fresh, f_x, f_y, f_steps, a_op, a_with, a_kind, a_target, a_from, a_to, a_exit, a_weights, a_inTree, a_back, a_first, a_probes, a_joined, a_order, a_ahead, a_met, a_way, a_ways, a_adds, a_begins, a_hits, a_cuts, a_gone, a_runs, a_version, ct, kw) → wpX_balance post (f_drafted, f_blocks, f_edges, f_probed, f_paths, f_fresh, f_x, f_y, f_steps, a_op, a_with, a_kind, a_target, a_from, a_to, a_exit, a_weights, a_inTree, a_back, a_first, a_probes, a_joined, a_order, a_ahead, a_met, a_way, a_ways, a_adds, a_begins, a_hits, a_cuts, a_gone, a_runs, a_version, a_counts, a_known) (nI p)) ∨
    (¬ cv_uq (fs nb + 1) F T kn p ∧ ∀ post : Int32 → SX → Prop, post 0 (f_drafted, f_blocks, f_edges, f_probed, f_paths, f_fresh, f_x, f_y, f_steps, a_op, a_with, a_kind, a_target, a_from, a_to, a_exit, a_weights, a_inTree, a_back, a_first, a_probes, a_joined, a_order, a_ahead, a_met, a_way, a_ways, a_adds, a_begins, a_hits, a_cuts, a_gone, a_runs, a_version, a_counts, a_known) → wpX_balance post (f_drafted, f_blocks, f_edges, f_probed, f_paths, f_fresh, f_x, f_y, f_steps, a_op, a_with, a_kind, a_target, a_from, a_to, a_exit, a_weights, a_inTree, a_back, a_first, a_probes, a_joined, a_order, a_ahead, a_met, a_way, a_ways, a_adds, a_begins, a_hits, a_cuts, a_gone, a_runs, a_version, a_counts, a_known) (nI p)) := by
  have hnb := G.2.1
  have hz : ∀ z : Int32, z + cs_i 0 (cv_t F T kn g p) = z := fun z => Int32.add_zero z
  rcases cv_62 (f_drafted := f_drafted) (f_blocks := f_blocks) (f_edges := f_edges) (f_probed := f_probed) (f_paths := f_paths) (f_fresh := f_fresh) (f_x := f_x) (f_y := f_y) (f_steps := f_steps) (a_op := a_op) (a_with := a_with) (a_kind := a_kind) (a_target := a_target) (a_from := a_from) (a_to := a_to) (a_exit := a_exit) (a_weights := a_weights) (a_inTree := a_inTree) (a_back := a_back) (a_first := a_first) (a_probes := a_probes) (a_joined := a_joined) (a_order := a_order) (a_ahead := a_ahead) (a_met := a_met) (a_way := a_way) (a_ways := a_ways) (a_adds := a_adds) (a_begins := a_begins) (a_hits := a_hits) (a_cuts := a_cuts) (a_gone := a_gone) (a_runs := a_runs) (a_version := a_version) (a_counts := a_counts) (a_known := a_known) G hp hE hfr hto K (- cf_c nb a_cuts p) (fs nb + 1) 0 (-1) (by omega) (fun h => absurd h (by show ¬ 1 ≤ 0; omega)) with ⟨q0, o, q1, q2, q3⟩ | ⟨q1, q3⟩
  · rw [hz] at q3
    have hop : (F o = p ∨ T o = p) ∧ kn o = 0 := by
      unfold cv_op at q2
      by_cases h : (F o = p ∨ T o = p) ∧ kn o = 0
      · exact h
      · rw [if_neg h] at q2; omega
    have hpp : p < nb ∨ p = 12 := by
      have := cg_FT G q1
      rcases hop.1 with h | h <;> rw [h] at this
      · exact this.1
      · exact this.2
    have hne := htr o q1 ((K o q1).2.2.2 hop.2)
    have hsum : cs_i (fs nb + 1) (cv_d F T g p) = cs_i (fs nb + 1) (cv_t F T kn g p) + cv_d F T g p o := by
      refine cs_ip (k := o) q1 (fun i hi hio => ?_) ?_
      · unfold cv_t
        by_cases hk0 : kn i = 0
        · rw [if_pos hk0]
          have hni : ¬ (F i = p ∨ T i = p) := by
            intro hic
            have h1 : cv_op F T kn p i = 1 := if_pos ⟨hic, hk0⟩
            exact hio (cs_n1 q0 q1 hi q2 h1)
          unfold cv_d
          rw [if_neg (fun h => hni (Or.inr h)), if_neg (fun h => hni (Or.inl h))]; rfl
        · rw [if_neg hk0]
      · unfold cv_t; rw [if_pos hop.2]; exact (Int32.zero_add _).symm
    have hdd : cs_i (fs nb + 1) (cv_d F T g p) = cf_in (fs nb + 1) T g p - cf_in (fs nb + 1) F g p := cs_im (fun i _ => rfl)
    have hb0 := hbal p hpp
    unfold cf_bal at hb0
    refine Or.inl ⟨o, upd a_counts o (g o), upd a_known o 1, q1, hop.2, fun e he => ?_, fun post hpo => cv_26 hnb hp hB post ⟨_, q3 post (fun y hy => ?_)⟩⟩
    · by_cases ee : e = o
      · subst ee; rw [cs_us, pk_us, pk_us]; exact ⟨Nat.le_refl _, rfl, fun _ => rfl, fun h => by omega⟩
      · rw [cs_un ee, pk_un ee, pk_un ee]; exact K e he
    · have hy' : y = g o := by
        rw [hy]
        by_cases hF : F o = p
        · have hT : ¬ T o = p := fun h => hne (hF.trans h.symm)
          have hd : cv_d F T g p o = 0 - g o := by unfold cv_d; rw [if_neg hT, if_pos hF]
          rw [hd] at hsum
          rw [if_pos hF]
          grind
        · have hT : T o = p := hop.1.resolve_left hF
          have hd : cv_d F T g p o = g o - 0 := by unfold cv_d; rw [if_pos hT, if_neg hF]
          rw [hd] at hsum
          rw [if_neg hF]
          grind
      rw [hy']; exact hpo
  · rw [hz] at q3
    refine Or.inr ⟨fun hu => ?_, fun post hpo => cv_26 hnb hp hB post ⟨_, q3 post hpo⟩⟩
    obtain ⟨o, u1, u2, u3, u4⟩ := hu
    refine q1 (cs_n1' u1 (if_pos ⟨u3, u2⟩) (fun i hi hio => if_neg (fun hh => hio (u4 i hi hh.2 hh.1))))
end
end
section
/-! solve as a whole -/
def cv_un (ne : Nat) (kn : Nat → Nat) : Nat := cs_n ne (fun e => if kn e = 0 then 1 else 0)
section
variable {f_drafted f_blocks f_edges f_probed f_paths f_fresh f_x f_y f_steps : Int32} {a_op a_with a_kind a_target a_from a_to a_exit a_weights a_inTree a_back a_first a_probes a_joined a_order a_ahead a_met a_way a_ways a_adds a_begins a_hits a_cuts a_gone a_runs a_version a_counts a_known : Nat → Int32}
theorem cv_71 {nb : Nat} {ki fs F T tr : Nat → Nat} {g : Nat → Int32} (G : cg_GR nb ki fs F T) (hB : f_blocks = nI nb) (hE : f_edges = nI (fs nb + 1)) (hfr : ∀ e, e < fs nb + 1 → a_from e = nI (F e)) (hto : ∀ e, e < fs nb + 1 → a_to e = nI (T e))
    (htr : ∀ e, e < fs nb + 1 → tr e = 1 → F e ≠ T e) (hbal : ∀ p, p < nb ∨ p = 12 → cf_bal nb (fs nb + 1) F T a_cuts g p = 0) :
    ∀ r p f kn a_counts a_known, p + r = 13 → f ≤ 1 → cv_K (fs nb + 1) tr kn g a_counts a_known →
      ∃ (f' : Nat) (kn' : Nat → Nat) (ct kw : Nat → Int32), f' ≤ 1 ∧ cv_K (fs nb + 1) tr kn' g ct kw ∧ cv_un (fs nb + 1) kn' ≤ cv_un (fs nb + 1) kn ∧ (f = 0 → f' = 1 → cv_un (fs nb + 1) kn' < cv_un (fs nb + 1) kn) ∧
        (f' = 0 → f = 0 ∧ kn' = kn ∧ ∀ q, p ≤ q → q < 13 → ¬ cv_uq (fs nb + 1) F T kn q) ∧
        ∀ post J, J (nI f') f_drafted f_blocks f_edges f_probed f_paths f_fresh f_x f_y f_steps a_op a_with a_kind a_target a_from a_to a_exit a_weights a_inTree a_back a_first a_probes a_joined a_order a_ahead a_met a_way a_ways a_adds a_begins a_hits a_cuts a_gone a_runs a_version ct kw → wX_solve_71 post J (r + 1) (nI f) (nI p) f_drafted f_blocks f_edges f_probed f_paths f_fresh f_x f_y f_steps a_op a_with a_kind a_target a_from a_to a_exit a_weights a_inTree a_back a_first a_probes a_joined a_order a_ahead a_met a_way a_ways a_adds a_begins a_hits a_cuts a_gone a_runs a_version a_counts a_known := by
  intro r
  induction r with
  | zero =>
    intro p f kn a_counts a_known hp hf K
    exact ⟨f, kn, a_counts, a_known, hf, K, Nat.le_refl _, fun h h' => by omega, fun h => ⟨h, rfl, fun q h1 h2 => by omega⟩, fun post J hq => br_t (nI_le (a := 13) (by omega) (by omega)) hq⟩
  | succ r ih =>
    intro p f kn a_counts a_known hp hf K
    have g1 : ¬ (13 : Int32) ≤ nI p := nI_ge (b := 13) (by omega) (by omega)
    have hf01 : f = 0 ∨ f = 1 := by omega
    rcases cv_bal (f_drafted := f_drafted) (f_blocks := f_blocks) (f_edges := f_edges) (f_probed := f_probed) (f_paths := f_paths) (f_fresh := f_fresh) (f_x := f_x) (f_y := f_y) (f_steps := f_steps) (a_op := a_op) (a_with := a_with) (a_kind := a_kind) (a_target := a_target) (a_from := a_from) (a_to := a_to) (a_exit := a_exit) (a_weights := a_weights) (a_inTree := a_inTree) (a_back := a_back) (a_first := a_first) (a_probes := a_probes) (a_joined := a_joined) (a_order := a_order) (a_ahead := a_ahead) (a_met := a_met) (a_way := a_way) (a_ways := a_ways) (a_adds := a_adds) (a_begins := a_begins) (a_hits := a_hits) (a_cuts := a_cuts) (a_gone := a_gone) (a_runs := a_runs) (a_version := a_version) (a_counts := a_counts) (a_known := a_known) (p := p) G (by omega) hB hE hfr hto K htr hbal with ⟨o, ct1, kw1, q1, q2, q3, q4⟩ | ⟨q1, q4⟩
    · have hun : cv_un (fs nb + 1) (cs_u kn o 1) + 1 = cv_un (fs nb + 1) kn := by
        unfold cv_un
        have := cs_np (n := fs nb + 1) (k := o) (f := fun e => if cs_u kn o 1 e = 0 then 1 else 0) (g := fun e => if kn e = 0 then 1 else 0) q1 (fun i _ hi => by simp only [cs_un hi])
        simp only [cs_us, q2] at this
        simp at this
        omega
      obtain ⟨f', kn', ct, kw, p0, p1, p2, p3, p4, p5⟩ := ih (p + 1) 1 (cs_u kn o 1) ct1 kw1 (by omega) (by omega) q3
      refine ⟨f', kn', ct, kw, p0, p1, by omega, fun _ _ => by omega, fun h => absurd (p4 h).1 (by omega), fun post J hq => br_f g1 (q4 _ ?_)⟩
      rcases hf01 with rfl | rfl
      · exact br_t rfl (br_f (by decide) (nm_r (nI_1 p) (p5 post J hq)))
      · exact br_f (by decide) (nm_r (nI_1 p) (p5 post J hq))
    · obtain ⟨f', kn', ct, kw, p0, p1, p2, p3, p4, p5⟩ := ih (p + 1) f kn a_counts a_known (by omega) hf K
      refine ⟨f', kn', ct, kw, p0, p1, p2, p3, fun h => ?_, fun post J hq => br_f g1 (q4 _ ?_)⟩
      · obtain ⟨r1, r2, r3⟩ := p4 h
        refine ⟨r1, r2, fun q h1 h2 => ?_⟩
        by_cases e : q = p
        · subst e; exact q1
        · exact r3 q (by omega) h2
      · rcases hf01 with rfl | rfl
        · exact br_t rfl (br_t rfl (nm_r (nI_1 p) (p5 post J hq)))
        · exact br_f (by decide) (nm_r (nI_1 p) (p5 post J hq))
theorem cv_63 {nb : Nat} {ki fs F T tr : Nat → Nat} {g : Nat → Int32} (G : cg_GR nb ki fs F T) (hB : f_blocks = nI nb) (hE : f_edges = nI (fs nb + 1)) (hfr : ∀ e, e < fs nb + 1 → a_from e = nI (F e)) (hto : ∀ e, e < fs nb + 1 → a_to e = nI (T e))
    (htr : ∀ e, e < fs nb + 1 → tr e = 1 → F e ≠ T e) (hbal : ∀ p, p < nb ∨ p = 12 → cf_bal nb (fs nb + 1) F T a_cuts g p = 0)
    (hleaf : ∀ U : Nat → Prop, (∀ e, e < fs nb + 1 → U e → tr e = 1) → (∃ e, e < fs nb + 1 ∧ U e) → ∃ p e, e < fs nb + 1 ∧ U e ∧ ct_ic F T e p ∧ ∀ e', e' < fs nb + 1 → U e' → ct_ic F T e' p → e' = e) :
    ∀ N kn a_counts a_known, cv_un (fs nb + 1) kn < N → cv_K (fs nb + 1) tr kn g a_counts a_known →
      ∃ ct kw : Nat → Int32, (∀ e, e < fs nb + 1 → ct e = g e) ∧ ∀ post : SX → Prop, post (f_drafted, f_blocks, f_edges, f_probed, f_paths, f_fresh, f_x, f_y, f_steps, a_op, a_with, a_kind, a_target, a_from, a_to, a_exit, a_weights, a_inTree, a_back, a_first, a_probes, a_joined, a_order, a_ahead, a_met, a_way, a_ways, a_adds, a_begins, a_hits, a_cuts, a_gone, a_runs, a_version, ct, kw) → ∃ n63 : Nat, wX_solve_63 post n63 1 f_drafted f_blocks f_edges f_probed f_paths f_fresh f_x f_y f_steps a_op a_with a_kind a_target a_from a_to a_exit a_weights a_inTree a_back a_first a_probes a_joined a_order a_ahead a_met a_way a_ways a_adds a_begins a_hits a_cuts a_gone a_runs a_version a_counts a_known := by
  intro N
  induction N with
  | zero => intro kn c w h; omega
  | succ N ih =>
    intro kn a_counts a_known hN K
    obtain ⟨f', kn', ct, kw, p0, p1, p2, p3, p4, p5⟩ := cv_71 (f_drafted := f_drafted) (f_blocks := f_blocks) (f_edges := f_edges) (f_probed := f_probed) (f_paths := f_paths) (f_fresh := f_fresh) (f_x := f_x) (f_y := f_y) (f_steps := f_steps) (a_op := a_op) (a_with := a_with) (a_kind := a_kind) (a_target := a_target) (a_from := a_from) (a_to := a_to) (a_exit := a_exit) (a_weights := a_weights) (a_inTree := a_inTree) (a_back := a_back) (a_first := a_first) (a_probes := a_probes) (a_joined := a_joined) (a_order := a_order) (a_ahead := a_ahead) (a_met := a_met) (a_way := a_way) (a_ways := a_ways) (a_adds := a_adds) (a_begins := a_begins) (a_hits := a_hits) (a_cuts := a_cuts) (a_gone := a_gone) (a_runs := a_runs) (a_version := a_version) G hB hE hfr hto htr hbal 13 0 0 kn a_counts a_known (by omega) (by omega) K
    have hf01 : f' = 0 ∨ f' = 1 := by omega
    rcases hf01 with rfl | rfl
    · obtain ⟨_, r2, r3⟩ := p4 rfl
      refine ⟨ct, kw, fun e he => ?_, fun post hq => ⟨2, br_f (by decide) ⟨_, p5 post _ (br_t rfl hq)⟩⟩⟩
      obtain ⟨k1, k2, k3, k4⟩ := p1 e he
      by_cases h0 : kn' e = 0
      · exfalso
        obtain ⟨p, o, s1, s2, s3, s4⟩ := hleaf (fun e => kn' e = 0) (fun x hx hu => (p1 x hx).2.2.2 hu) ⟨e, he, h0⟩
        have hp13 : p < 13 := by
          have := cg_FT12 G s1
          rcases s3 with h | h <;> omega
        refine r3 p (by omega) hp13 ?_
        rw [← r2]
        exact ⟨o, s1, s2, s3, s4⟩
      · exact k3 (by omega)
    · obtain ⟨ct', kw', q1, q2⟩ := ih kn' ct kw (by have := p3 rfl rfl; omega) p1
      refine ⟨ct', kw', q1, fun post hq => ?_⟩
      obtain ⟨n, hn⟩ := q2 post hq
      exact ⟨n + 1, br_f (by decide) ⟨_, p5 post _ hn⟩⟩
theorem cv_15 {ne : Nat} {tr : Nat → Nat} {g : Nat → Int32} (hne : ne ≤ 37) (hE : f_edges = nI ne) (hin : ∀ e, e < ne → tr e ≤ 1 ∧ a_inTree e = nI (tr e)) (hh : ∀ e, e < ne → tr e = 0 → a_hits e = g e) :
    ∀ r e a_counts a_known, e + r = ne → cv_K e tr (fun x => 1 - tr x) g a_counts a_known →
      ∃ ct kw : Nat → Int32, cv_K ne tr (fun x => 1 - tr x) g ct kw ∧ ∀ post : SX → Prop, (∃ n63 : Nat, wX_solve_63 post n63 1 f_drafted f_blocks f_edges f_probed f_paths f_fresh f_x f_y f_steps a_op a_with a_kind a_target a_from a_to a_exit a_weights a_inTree a_back a_first a_probes a_joined a_order a_ahead a_met a_way a_ways a_adds a_begins a_hits a_cuts a_gone a_runs a_version ct kw) → wX_solve_15 post f_drafted f_blocks f_edges f_probed f_paths f_fresh f_x f_y f_steps (r + 1) (nI e) a_op a_with a_kind a_target a_from a_to a_exit a_weights a_inTree a_back a_first a_probes a_joined a_order a_ahead a_met a_way a_ways a_adds a_begins a_hits a_cuts a_gone a_runs a_version a_counts a_known := by
  intro r
  induction r with
  | zero =>
    intro e a_counts a_known he K
    have e1 : e = ne := by omega
    subst e1
    exact ⟨a_counts, a_known, K, fun post hq => br_t (by rw [hE]; exact nI_le (Nat.le_refl _) (by omega)) hq⟩
  | succ r ih =>
    intro e a_counts a_known he K
    have hlt : e < ne := by omega
    obtain ⟨t1, t2⟩ := hin e hlt
    have hv : vp_in (nI e) 37 := vp_in_nI (by omega) (by omega)
    obtain ⟨ct, kw, q1, q2⟩ := ih (e + 1) (upd a_counts e (a_hits e)) (upd a_known e (nI (1 - tr e))) (by omega) (fun x hx => by
      by_cases ex : x = e
      · subst ex; rw [pk_us, pk_us]; exact ⟨show 1 - tr x ≤ 1 by omega, rfl, fun h => hh x hlt (by have h' : 1 - tr x = 1 := h; omega), fun h => by have h' : 1 - tr x = 0 := h; omega⟩
      · rw [pk_un ex, pk_un ex]; exact K x (by omega))
    refine ⟨ct, kw, q1, fun post hq => br_f (by rw [hE]; exact nI_ge hlt (by omega)) ⟨hv, ?_⟩⟩
    have st : ∀ z0 : Int32, vp_nar .boolean z0 = nI (1 - tr e) → wX_solve_42 post (wX_solve_15 post f_drafted f_blocks f_edges f_probed f_paths f_fresh f_x f_y f_steps (r + 1)) (nI e) z0 (nI e) f_drafted f_blocks f_edges f_probed f_paths f_fresh f_x f_y f_steps a_op a_with a_kind a_target a_from a_to a_exit a_weights a_inTree a_back a_first a_probes a_joined a_order a_ahead a_met a_way a_ways a_adds a_begins a_hits a_cuts a_gone a_runs a_version a_counts a_known := fun z0 hz =>
      And.intro hv (nm_r (cd_up rfl (by omega) hz) ⟨vp_in_nI (by omega) (by omega), hv, nm_r (cd_up rfl (by omega) (cd_rd rfl (by omega) rfl)) (nm_r (nI_1 e) (q2 post hq))⟩)
    by_cases h0 : tr e = 0
    · exact br_t (by rw [cd_rd rfl (by omega) t2, h0]; rfl) (st 1 (by rw [cd_z1, h0]; rfl))
    · exact br_f (by rw [cd_rd rfl (by omega) t2]; exact nI_ne0 (by omega) (by omega)) (st 0 (by rw [cd_z0, show tr e = 1 by omega]; rfl))
theorem cv_solve {nb : Nat} {ki fs F T tr : Nat → Nat} {g bt : Nat → Int32} (G : cg_GR nb ki fs F T) (hB : f_blocks = nI nb) (hE : f_edges = nI (fs nb + 1)) (hfr : ∀ e, e < fs nb + 1 → a_from e = nI (F e)) (hto : ∀ e, e < fs nb + 1 → a_to e = nI (T e))
    (hT : cr_T (fs nb + 1) F T tr f_probed a_inTree a_probes bt) (hh : ∀ e, e < fs nb + 1 → tr e = 0 → a_hits e = g e) (hbal : ∀ p, p < nb ∨ p = 12 → cf_bal nb (fs nb + 1) F T a_cuts g p = 0) (hfre : f_fresh = 0 ∨ (f_fresh = 1 ∧ ∀ e, e < fs nb + 1 → a_counts e = g e)) :
    ∃ ct kw : Nat → Int32, (∀ e, e < fs nb + 1 → ct e = g e) ∧ ∀ post : SX → Prop, post (f_drafted, f_blocks, f_edges, f_probed, f_paths, 1, f_x, f_y, f_steps, a_op, a_with, a_kind, a_target, a_from, a_to, a_exit, a_weights, a_inTree, a_back, a_first, a_probes, a_joined, a_order, a_ahead, a_met, a_way, a_ways, a_adds, a_begins, a_hits, a_cuts, a_gone, a_runs, a_version, ct, kw) → wpX_solve post (f_drafted, f_blocks, f_edges, f_probed, f_paths, f_fresh, f_x, f_y, f_steps, a_op, a_with, a_kind, a_target, a_from, a_to, a_exit, a_weights, a_inTree, a_back, a_first, a_probes, a_joined, a_order, a_ahead, a_met, a_way, a_ways, a_adds, a_begins, a_hits, a_cuts, a_gone, a_runs, a_version, a_counts, a_known) := by
  have hne := cg_ne G
  rcases hfre with h0 | ⟨h1, h2⟩
  · obtain ⟨ct1, kw1, q1, q2⟩ := cv_15 (f_drafted := f_drafted) (f_blocks := f_blocks) (f_edges := f_edges) (f_probed := f_probed) (f_paths := f_paths) (f_x := f_x) (f_y := f_y) (f_steps := f_steps) (a_op := a_op) (a_with := a_with) (a_kind := a_kind) (a_target := a_target) (a_from := a_from) (a_to := a_to) (a_exit := a_exit) (a_weights := a_weights) (a_inTree := a_inTree) (a_back := a_back) (a_first := a_first) (a_probes := a_probes) (a_joined := a_joined) (a_order := a_order) (a_ahead := a_ahead) (a_met := a_met) (a_way := a_way) (a_ways := a_ways) (a_adds := a_adds) (a_begins := a_begins) (a_hits := a_hits) (a_cuts := a_cuts) (a_gone := a_gone) (a_runs := a_runs) (a_version := a_version) (f_fresh := 1) (ne := fs nb + 1) (tr := tr) (g := g) (by omega) hE (fun e he => ⟨(hT.1 e he).1, (hT.1 e he).2.1⟩) hh (fs nb + 1) 0 a_counts a_known (by omega) (fun x hx => by omega)
    obtain ⟨ct, kw, p1, p2⟩ := cv_63 (f_drafted := f_drafted) (f_blocks := f_blocks) (f_edges := f_edges) (f_probed := f_probed) (f_paths := f_paths) (f_x := f_x) (f_y := f_y) (f_steps := f_steps) (a_op := a_op) (a_with := a_with) (a_kind := a_kind) (a_target := a_target) (a_from := a_from) (a_to := a_to) (a_exit := a_exit) (a_weights := a_weights) (a_inTree := a_inTree) (a_back := a_back) (a_first := a_first) (a_probes := a_probes) (a_joined := a_joined) (a_order := a_order) (a_ahead := a_ahead) (a_met := a_met) (a_way := a_way) (a_ways := a_ways) (a_adds := a_adds) (a_begins := a_begins) (a_hits := a_hits) (a_cuts := a_cuts) (a_gone := a_gone) (a_runs := a_runs) (a_version := a_version) (f_fresh := 1) G hB hE hfr hto (fun e he => (hT.1 e he).2.2.2) hbal hT.2.1 (cv_un (fs nb + 1) (fun x => 1 - tr x) + 1) (fun x => 1 - tr x) ct1 kw1 (by omega) q1
    exact ⟨ct, kw, p1, fun post hq => br_t h0 ⟨_, q2 post (p2 post hq)⟩⟩
  · refine ⟨a_counts, a_known, h2, fun post hq => br_f (by rw [h1]; decide) ?_⟩
    rw [← h1] at hq; exact hq
end
end
section
/-! count, done -/
theorem cv_out {nb b : Nat} {ki fs F T : Nat → Nat} (G : cg_GR nb ki fs F T) (hb : b < nb) (g : Nat → Int32) : cf_in (fs nb + 1) F g b = cs_i (cg_ex (ki b)) (fun j => g (fs b + j)) := by
  have hfs := (G.2.2.2.1 b hb).2
  have hle := cg_mono G (a := b + 1) nb (by omega) (Nat.le_refl _)
  unfold cf_in
  rw [show fs nb + 1 = fs b + (cg_ex (ki b) + (fs nb + 1 - fs (b + 1))) by omega, cs_is, cs_is]
  have z1 : cs_i (fs b) (fun e => if F e = b then g e else 0) = 0 := cs_iz (fun i hi => by
    rw [if_neg (fun h => by have := (cg_Fb G (e := i) (by omega) hb h).1; omega)])
  have z2 : cs_i (fs nb + 1 - fs (b + 1)) (fun i => (fun i => (fun e => if F e = b then g e else 0) (fs b + i)) (cg_ex (ki b) + i)) = 0 := cs_iz (fun i hi => by
    dsimp only
    rw [if_neg (fun h => by have := (cg_Fb G (e := fs b + (cg_ex (ki b) + i)) (by omega) hb h).2; omega)])
  have z3 : cs_i (cg_ex (ki b)) (fun i => (fun e => if F e = b then g e else 0) (fs b + i)) = cs_i (cg_ex (ki b)) (fun j => g (fs b + j)) := cs_ic (fun i hi => by
    dsimp only
    rw [if_pos ((G.2.2.2.2.1 b i hb hi).1)])
  rw [z1, z2, z3, Int32.zero_add, Int32.add_zero]
section
variable {f_drafted f_blocks f_edges f_probed f_paths f_fresh f_x f_y f_steps : Int32} {a_op a_with a_kind a_target a_from a_to a_exit a_weights a_inTree a_back a_first a_probes a_joined a_order a_ahead a_met a_way a_ways a_adds a_begins a_hits a_cuts a_gone a_runs a_version a_counts a_known : Nat → Int32} {g_made g_blocks g_edges g_paths g_many g_lastX g_lastY g_lastBlocks : Int32} {b_op b_number b_kind b_target b_from b_to b_exit b_weight b_firstEdge b_tree b_back b_row b_length b_gone b_done b_went b_cut b_kept b_mark b_way b_tried b_stack : Nat → Int32}
/-- solve keeps all but its own tables -/
theorem cv_S {nb : Nat} {ki fs F T bk m rk tr : Nat → Nat} (B : cr_B nb ki fs F T bk m rk tr (f_drafted, f_blocks, f_edges, f_probed, f_paths, f_fresh, f_x, f_y, f_steps, a_op, a_with, a_kind, a_target, a_from, a_to, a_exit, a_weights, a_inTree, a_back, a_first, a_probes, a_joined, a_order, a_ahead, a_met, a_way, a_ways, a_adds, a_begins, a_hits, a_cuts, a_gone, a_runs, a_version, a_counts, a_known) (g_made, g_blocks, g_edges, g_paths, g_many, g_lastX, g_lastY, g_lastBlocks, b_op, b_number, b_kind, b_target, b_from, b_to, b_exit, b_weight, b_firstEdge, b_tree, b_back, b_row, b_length, b_gone, b_done, b_went, b_cut, b_kept, b_mark, b_way, b_tried, b_stack)) :
    ∃ ct kw : Nat → Int32, (∀ e, e < fs nb + 1 → ct e = b_gone e) ∧ cr_B nb ki fs F T bk m rk tr (f_drafted, f_blocks, f_edges, f_probed, f_paths, 1, f_x, f_y, f_steps, a_op, a_with, a_kind, a_target, a_from, a_to, a_exit, a_weights, a_inTree, a_back, a_first, a_probes, a_joined, a_order, a_ahead, a_met, a_way, a_ways, a_adds, a_begins, a_hits, a_cuts, a_gone, a_runs, a_version, ct, kw) (g_made, g_blocks, g_edges, g_paths, g_many, g_lastX, g_lastY, g_lastBlocks, b_op, b_number, b_kind, b_target, b_from, b_to, b_exit, b_weight, b_firstEdge, b_tree, b_back, b_row, b_length, b_gone, b_done, b_went, b_cut, b_kept, b_mark, b_way, b_tried, b_stack) ∧ ∀ post : SX → Prop, post (f_drafted, f_blocks, f_edges, f_probed, f_paths, 1, f_x, f_y, f_steps, a_op, a_with, a_kind, a_target, a_from, a_to, a_exit, a_weights, a_inTree, a_back, a_first, a_probes, a_joined, a_order, a_ahead, a_met, a_way, a_ways, a_adds, a_begins, a_hits, a_cuts, a_gone, a_runs, a_version, ct, kw) → wpX_solve post (f_drafted, f_blocks, f_edges, f_probed, f_paths, f_fresh, f_x, f_y, f_steps, a_op, a_with, a_kind, a_target, a_from, a_to, a_exit, a_weights, a_inTree, a_back, a_first, a_probes, a_joined, a_order, a_ahead, a_met, a_way, a_ways, a_adds, a_begins, a_hits, a_cuts, a_gone, a_runs, a_version, a_counts, a_known) := by
  obtain ⟨⟨G, ⟨e1, e2, e3, e4⟩, e5, e6, e7, e8⟩, hK, hDF, hPX, hPY, hw, hT, hS, hS2, hfr⟩ := B
  have hS0 := cl_S0.mp hS
  obtain ⟨ct, kw, q1, q2⟩ := cv_solve (f_drafted := f_drafted) (f_blocks := f_blocks) (f_edges := f_edges) (f_probed := f_probed) (f_paths := f_paths) (f_fresh := f_fresh) (f_x := f_x) (f_y := f_y) (f_steps := f_steps) (a_op := a_op) (a_with := a_with) (a_kind := a_kind) (a_target := a_target) (a_from := a_from) (a_to := a_to) (a_exit := a_exit) (a_weights := a_weights) (a_inTree := a_inTree) (a_back := a_back) (a_first := a_first) (a_probes := a_probes) (a_joined := a_joined) (a_order := a_order) (a_ahead := a_ahead) (a_met := a_met) (a_way := a_way) (a_ways := a_ways) (a_adds := a_adds) (a_begins := a_begins) (a_hits := a_hits) (a_cuts := a_cuts) (a_gone := a_gone) (a_runs := a_runs) (a_version := a_version) (a_counts := a_counts) (a_known := a_known) (g := b_gone) G e1 e3 (fun e he => (e6 e he).1) (fun e he => (e6 e he).2.2.1) hT hS0.1 hS0.2.1 hfr
  exact ⟨ct, kw, q1, ⟨⟨G, ⟨e1, e2, e3, e4⟩, e5, e6, e7, e8⟩, hK, hDF, hPX, hPY, hw, hT, hS, hS2, Or.inr ⟨rfl, q1⟩⟩, q2⟩
theorem cv_done {nb b : Nat} {ki fs F T bk m rk tr : Nat → Nat} (hb : b < nb) (B : cr_B nb ki fs F T bk m rk tr (f_drafted, f_blocks, f_edges, f_probed, f_paths, f_fresh, f_x, f_y, f_steps, a_op, a_with, a_kind, a_target, a_from, a_to, a_exit, a_weights, a_inTree, a_back, a_first, a_probes, a_joined, a_order, a_ahead, a_met, a_way, a_ways, a_adds, a_begins, a_hits, a_cuts, a_gone, a_runs, a_version, a_counts, a_known) (g_made, g_blocks, g_edges, g_paths, g_many, g_lastX, g_lastY, g_lastBlocks, b_op, b_number, b_kind, b_target, b_from, b_to, b_exit, b_weight, b_firstEdge, b_tree, b_back, b_row, b_length, b_gone, b_done, b_went, b_cut, b_kept, b_mark, b_way, b_tried, b_stack)) :
    ∃ ct kw : Nat → Int32, cr_B nb ki fs F T bk m rk tr (f_drafted, f_blocks, f_edges, f_probed, f_paths, 1, f_x, f_y, f_steps, a_op, a_with, a_kind, a_target, a_from, a_to, a_exit, a_weights, a_inTree, a_back, a_first, a_probes, a_joined, a_order, a_ahead, a_met, a_way, a_ways, a_adds, a_begins, a_hits, a_cuts, a_gone, a_runs, a_version, ct, kw) (g_made, g_blocks, g_edges, g_paths, g_many, g_lastX, g_lastY, g_lastBlocks, b_op, b_number, b_kind, b_target, b_from, b_to, b_exit, b_weight, b_firstEdge, b_tree, b_back, b_row, b_length, b_gone, b_done, b_went, b_cut, b_kept, b_mark, b_way, b_tried, b_stack) ∧ ∀ post : Int32 → SX → Prop, post (b_done b) (f_drafted, f_blocks, f_edges, f_probed, f_paths, 1, f_x, f_y, f_steps, a_op, a_with, a_kind, a_target, a_from, a_to, a_exit, a_weights, a_inTree, a_back, a_first, a_probes, a_joined, a_order, a_ahead, a_met, a_way, a_ways, a_adds, a_begins, a_hits, a_cuts, a_gone, a_runs, a_version, ct, kw) → wpX_done post (f_drafted, f_blocks, f_edges, f_probed, f_paths, f_fresh, f_x, f_y, f_steps, a_op, a_with, a_kind, a_target, a_from, a_to, a_exit, a_weights, a_inTree, a_back, a_first, a_probes, a_joined, a_order, a_ahead, a_met, a_way, a_ways, a_adds, a_begins, a_hits, a_cuts, a_gone, a_runs, a_version, a_counts, a_known) (nI b) := by
  obtain ⟨ct, kw, q1, q2, q3⟩ := cv_S B
  refine ⟨ct, kw, q2, fun post hp => ?_⟩
  obtain ⟨⟨G, ⟨e1, e2, e3, e4⟩, e5, e6, e7, e8⟩, hK, hDF, hPX, hPY, hw, hT, hS, hS2, hfr⟩ := B
  have hnb := G.2.1
  have hne := cg_ne G
  have hS0 := cl_S0.mp hS
  have hfs := (G.2.2.2.1 b hb).2
  have hfle := cg_mono G (a := b + 1) nb (by omega) (Nat.le_refl _)
  have hd := hS0.2.2.1 b hb
  rw [cv_out G hb] at hd
  have lp : ∀ r j, j + r = cg_ex (ki b) → wX_done_31 post (nI b) f_drafted f_blocks f_edges f_probed f_paths 1 f_x f_y f_steps a_op a_with a_kind a_target a_from a_to a_exit a_weights a_inTree a_back a_first a_probes a_joined a_order a_ahead a_met a_way a_ways a_adds a_begins a_hits a_cuts a_gone a_runs a_version ct kw (r + 1) (a_cuts b + cs_i j (fun i => b_gone (fs b + i))) (nI (fs b + j)) := by
    intro r
    induction r with
    | zero =>
      intro j hj
      have ej : j = cg_ex (ki b) := by omega
      subst ej
      refine And.intro (pk_in (b + 1) 13 (by omega) (hx := nI_1 b)) (br_t (by rw [cd_rd (nI_1 b) (by omega) (e7 (b + 1) (by omega))]; exact nI_le (by omega) (by omega)) ?_)
      rw [← hd]; exact hp
    | succ r ih =>
      intro j hj
      refine And.intro (pk_in (b + 1) 13 (by omega) (hx := nI_1 b)) (br_f (by rw [cd_rd (nI_1 b) (by omega) (e7 (b + 1) (by omega))]; exact nI_ge (by omega) (by omega)) ⟨vp_in_nI (by omega) (by omega), nm_r (e' := a_cuts b + cs_i (j + 1) (fun i => b_gone (fs b + i))) ?_ (nm_r (nI_1 _) (ih (j + 1) (by omega)))⟩)
      rw [cd_rd rfl (by omega) (q1 (fs b + j) (by omega))]
      simp only [cs_i]
      ac_rfl
  have hin : ∀ post : Int32 → Prop, post 1 → wpX_in post (nI b) f_blocks := by
    intro post h
    rw [e1]
    exact br_f (nI_pos (by omega)) (br_f (nI_ge hb (by omega)) h)
  unfold wpX_done
  refine hin _ ?_
  refine br_f (by decide) (q3 _ ⟨vp_in_nI (by omega) (by omega), nm_r (e' := a_cuts b + cs_i 0 (fun i => b_gone (fs b + i))) ?_ ⟨vp_in_nI (by omega) (by omega), nm_r (cd_rd rfl (by omega) (e7 b (by omega))) ⟨_, lp (cg_ex (ki b)) 0 (by omega)⟩⟩⟩)
  rw [nI_clamp (by omega)]
  exact (Int32.add_zero _).symm
end
theorem i_vc_count {k : Nat} {u : SX} {v : SY} (I : i_Rel k u v) (hk : k + 6 ≤ 3072) (v1 : Int32) : wpX_count (fun r u' => wpY_count (fun r' => r' = r ∧ i_Rel (k + 6) u' v) v v1) u v1 := by
  revert I
  refine cr_el (P := fun u v => i_Rel k u v → wpX_count (fun r u' => wpY_count (fun r' => r' = r ∧ i_Rel (k + 6) u' v) v v1) u v1) ?_ u v
  intro f_drafted f_blocks f_edges f_probed f_paths f_fresh f_x f_y f_steps a_op a_with a_kind a_target a_from a_to a_exit a_weights a_inTree a_back a_first a_probes a_joined a_order a_ahead a_met a_way a_ways a_adds a_begins a_hits a_cuts a_gone a_runs a_version a_counts a_known g_made g_blocks g_edges g_paths g_many g_lastX g_lastY g_lastBlocks b_op b_number b_kind b_target b_from b_to b_exit b_weight b_firstEdge b_tree b_back b_row b_length b_gone b_done b_went b_cut b_kept b_mark b_way b_tried b_stack
  intro I
  have I6 := i_up I
  obtain ⟨hD, hop, hxy, hV, hB⟩ := I6
  rcases hB with ⟨b1, b2, b3, b4, b5, b6, b7⟩ | ⟨nb, ki, fs, F, T, bk, m, rk, tr, B⟩
  · have I6 := i_up I
    subst b2 b5
    rcases cw_in v1 0 (by omega) (M := 0 - 1) (by decide) with ⟨j, hj, _⟩ | ⟨_, hX, hY⟩
    · omega
    · unfold wpX_count; refine hX _ ?_; refine br_t rfl ?_
      unfold wpY_count; refine hY _ ?_
      exact br_t rfl ⟨rfl, I6⟩
  · obtain ⟨ct, kw, q1, q2, q3⟩ := cv_S B
    obtain ⟨⟨G, ⟨e1, e2, e3, e4⟩, _⟩, _⟩ := B
    have hne := cg_ne G
    have I6 := i_up I
    have hin := cw_in v1 (fs nb + 1) (by omega) (cw_pM (n := fs nb + 1) (by omega))
    rcases hin with ⟨j, hj, rfl, hX, hY⟩ | ⟨_, hX, hY⟩
    · rw [← show f_edges = nI (fs nb + 1) from e3] at hX
      rw [← show g_edges = nI (fs nb + 1) from e4] at hY
      unfold wpX_count; refine hX _ ?_
      refine br_f (by decide) (q3 _ ⟨vp_in_nI (by omega) (by omega), ?_⟩)
      unfold wpY_count; refine hY _ ?_
      refine br_f (by decide) ⟨vp_in_nI (by omega) (by omega), ?_, ⟨hD, hop, hxy, hV, Or.inr ⟨nb, ki, fs, F, T, bk, m, rk, tr, q2⟩⟩⟩
      rw [nI_clamp (by omega)]; exact (q1 j hj).symm
    · rw [← show f_edges = nI (fs nb + 1) from e3] at hX
      rw [← show g_edges = nI (fs nb + 1) from e4] at hY
      unfold wpX_count; refine hX _ ?_; refine br_t rfl ?_
      unfold wpY_count; refine hY _ ?_
      exact br_t rfl ⟨rfl, I6⟩
theorem i_vc_done {k : Nat} {u : SX} {v : SY} (I : i_Rel k u v) (hk : k + 6 ≤ 3072) (v1 : Int32) : wpX_done (fun r u' => wpY_done (fun r' => r' = r ∧ i_Rel (k + 6) u' v) v v1) u v1 := by
  revert I
  refine cr_el (P := fun u v => i_Rel k u v → wpX_done (fun r u' => wpY_done (fun r' => r' = r ∧ i_Rel (k + 6) u' v) v v1) u v1) ?_ u v
  intro f_drafted f_blocks f_edges f_probed f_paths f_fresh f_x f_y f_steps a_op a_with a_kind a_target a_from a_to a_exit a_weights a_inTree a_back a_first a_probes a_joined a_order a_ahead a_met a_way a_ways a_adds a_begins a_hits a_cuts a_gone a_runs a_version a_counts a_known g_made g_blocks g_edges g_paths g_many g_lastX g_lastY g_lastBlocks b_op b_number b_kind b_target b_from b_to b_exit b_weight b_firstEdge b_tree b_back b_row b_length b_gone b_done b_went b_cut b_kept b_mark b_way b_tried b_stack
  intro I
  have I6 := i_up I
  obtain ⟨hD, hop, hxy, hV, hB⟩ := I6
  rcases hB with ⟨b1, b2, b3, b4, b5, b6, b7⟩ | ⟨nb, ki, fs, F, T, bk, m, rk, tr, B⟩
  · have I6 := i_up I
    subst b1 b5
    rcases cw_in v1 0 (by omega) (M := 0 - 1) (by decide) with ⟨j, hj, _⟩ | ⟨_, hX, hY⟩
    · omega
    · unfold wpX_done; refine hX _ ?_; refine br_t rfl ?_
      exact br_t (by decide) ⟨rfl, I6⟩
  · have B' := B
    obtain ⟨⟨G, ⟨e1, e2, e3, e4⟩, _⟩, _⟩ := B
    have hne := cg_ne G
    have hnb := G.2.1
    have I6 := i_up I
    have hg : ¬ g_edges ≤ 0 := by rw [show g_edges = nI (fs nb + 1) from e4]; exact nI_nle (by omega) (by omega)
    have hin := cw_in v1 nb (by omega) (cw_pM (n := nb) (by omega))
    rcases hin with ⟨j, hj, rfl, hX, hY⟩ | ⟨_, hX, hY⟩
    · obtain ⟨ct, kw, q1, q2⟩ := cv_done hj B'
      rw [← show g_blocks = nI nb from e2] at hY
      refine q2 _ ?_
      unfold wpY_done
      refine br_f hg (hY _ (br_f (by decide) ⟨vp_in_nI (by omega) (by omega), ?_, ⟨hD, hop, hxy, hV, Or.inr ⟨nb, ki, fs, F, T, bk, m, rk, tr, q1⟩⟩⟩))
      rw [nI_clamp (by omega)]
    · rw [← show f_blocks = nI nb from e1] at hX
      rw [← show g_blocks = nI nb from e2] at hY
      unfold wpX_done; refine hX _ ?_; refine br_t rfl ?_
      unfold wpY_done
      exact br_f hg (hY _ (br_t rfl ⟨rfl, I6⟩))
end
section
/-! covered -/
section
variable {f_drafted f_blocks f_edges f_probed f_paths f_fresh f_x f_y f_steps : Int32} {a_op a_with a_kind a_target a_from a_to a_exit a_weights a_inTree a_back a_first a_probes a_joined a_order a_ahead a_met a_way a_ways a_adds a_begins a_hits a_cuts a_gone a_runs a_version a_counts a_known : Nat → Int32} {g_made g_blocks g_edges g_paths g_many g_lastX g_lastY g_lastBlocks : Int32} {b_op b_number b_kind b_target b_from b_to b_exit b_weight b_firstEdge b_tree b_back b_row b_length b_gone b_done b_went b_cut b_kept b_mark b_way b_tried b_stack : Nat → Int32}
theorem ch_blocks {nb : Nat} {ki fs F T bk m rk tr : Nat → Nat} : ∀ r b (x : Int32) f_fresh a_counts a_known, b + r = nb → cr_B nb ki fs F T bk m rk tr (f_drafted, f_blocks, f_edges, f_probed, f_paths, f_fresh, f_x, f_y, f_steps, a_op, a_with, a_kind, a_target, a_from, a_to, a_exit, a_weights, a_inTree, a_back, a_first, a_probes, a_joined, a_order, a_ahead, a_met, a_way, a_ways, a_adds, a_begins, a_hits, a_cuts, a_gone, a_runs, a_version, a_counts, a_known) (g_made, g_blocks, g_edges, g_paths, g_many, g_lastX, g_lastY, g_lastBlocks, b_op, b_number, b_kind, b_target, b_from, b_to, b_exit, b_weight, b_firstEdge, b_tree, b_back, b_row, b_length, b_gone, b_done, b_went, b_cut, b_kept, b_mark, b_way, b_tried, b_stack) →
    ∃ (res fr : Int32) (ct kw : Nat → Int32), cr_B nb ki fs F T bk m rk tr (f_drafted, f_blocks, f_edges, f_probed, f_paths, fr, f_x, f_y, f_steps, a_op, a_with, a_kind, a_target, a_from, a_to, a_exit, a_weights, a_inTree, a_back, a_first, a_probes, a_joined, a_order, a_ahead, a_met, a_way, a_ways, a_adds, a_begins, a_hits, a_cuts, a_gone, a_runs, a_version, ct, kw) (g_made, g_blocks, g_edges, g_paths, g_many, g_lastX, g_lastY, g_lastBlocks, b_op, b_number, b_kind, b_target, b_from, b_to, b_exit, b_weight, b_firstEdge, b_tree, b_back, b_row, b_length, b_gone, b_done, b_went, b_cut, b_kept, b_mark, b_way, b_tried, b_stack) ∧ (∀ post : Int32 → SX → Prop, post res (f_drafted, f_blocks, f_edges, f_probed, f_paths, fr, f_x, f_y, f_steps, a_op, a_with, a_kind, a_target, a_from, a_to, a_exit, a_weights, a_inTree, a_back, a_first, a_probes, a_joined, a_order, a_ahead, a_met, a_way, a_ways, a_adds, a_begins, a_hits, a_cuts, a_gone, a_runs, a_version, ct, kw) → wX_blocksDone_4 post (r + 1) x (nI b) f_drafted f_blocks f_edges f_probed f_paths f_fresh f_x f_y f_steps a_op a_with a_kind a_target a_from a_to a_exit a_weights a_inTree a_back a_first a_probes a_joined a_order a_ahead a_met a_way a_ways a_adds a_begins a_hits a_cuts a_gone a_runs a_version a_counts a_known) ∧ (∀ post : Int32 → Prop, post res → wY_covered_71 post g_made g_blocks g_edges g_paths g_many g_lastX g_lastY g_lastBlocks b_op b_number b_kind b_target b_from b_to b_exit b_weight b_firstEdge b_tree b_back b_row b_length b_gone b_done b_went b_cut b_kept b_mark b_way b_tried b_stack (r + 1) x (nI b)) := by
  intro r
  induction r with
  | zero =>
    intro b x f_fresh a_counts a_known hb B
    have B' := B
    obtain ⟨⟨G, ⟨e1, e2, e3, e4⟩, _⟩, _⟩ := B
    have hnb := G.2.1
    refine ⟨x, f_fresh, a_counts, a_known, B', fun post hp => br_t ?_ hp, fun post hp => br_t ?_ hp⟩
    · rw [show f_blocks = nI nb from e1]; exact nI_le (by omega) (by omega)
    · rw [show g_blocks = nI nb from e2]; exact nI_le (by omega) (by omega)
  | succ r ih =>
    intro b x f_fresh a_counts a_known hb B
    have B' := B
    obtain ⟨⟨G, ⟨e1, e2, e3, e4⟩, _⟩, _⟩ := B
    have hnb := G.2.1
    have g1 : ¬ f_blocks ≤ nI b := by rw [show f_blocks = nI nb from e1]; exact nI_ge (by omega) (by omega)
    have g2 : ¬ g_blocks ≤ nI b := by rw [show g_blocks = nI nb from e2]; exact nI_ge (by omega) (by omega)
    obtain ⟨ct1, kw1, q1, q2⟩ := cv_done (b := b) (by omega) B'
    by_cases h : b_done b ≤ 0
    · obtain ⟨res, fr, ct, kw, p1, p2, p3⟩ := ih (b + 1) x 1 ct1 kw1 (by omega) q1
      exact ⟨res, fr, ct, kw, p1, fun post hp => br_f g1 (q2 _ (br_t h (nm_r (nI_1 b) (p2 post hp)))), fun post hp => br_f g2 ⟨vp_in_nI (by omega) (by omega), br_t (by rw [nI_clamp (by omega)]; exact h) (nm_r (nI_1 b) (p3 post hp))⟩⟩
    · obtain ⟨res, fr, ct, kw, p1, p2, p3⟩ := ih (b + 1) (x + 1) 1 ct1 kw1 (by omega) q1
      exact ⟨res, fr, ct, kw, p1, fun post hp => br_f g1 (q2 _ (br_f h (nm_e (nm_r (nI_1 b) (p2 post hp))))), fun post hp => br_f g2 ⟨vp_in_nI (by omega) (by omega), br_f (by rw [nI_clamp (by omega)]; exact h) (nm_e (nm_r (nI_1 b) (p3 post hp)))⟩⟩
theorem ch_edges {n : Nat} (hn : n < 37) (hE : f_edges = nI (n + 1)) (hE' : g_edges = nI (n + 1)) (h : ∀ e, e < n + 1 → a_counts e = b_gone e) : ∀ r e (x : Int32), e + r = n →
    ∃ res : Int32, (∀ post : Int32 → SX → Prop, post res (f_drafted, f_blocks, f_edges, f_probed, f_paths, f_fresh, f_x, f_y, f_steps, a_op, a_with, a_kind, a_target, a_from, a_to, a_exit, a_weights, a_inTree, a_back, a_first, a_probes, a_joined, a_order, a_ahead, a_met, a_way, a_ways, a_adds, a_begins, a_hits, a_cuts, a_gone, a_runs, a_version, a_counts, a_known) → wX_edgesGone_8 post f_drafted f_blocks f_edges f_probed f_paths f_fresh f_x f_y f_steps a_op a_with a_kind a_target a_from a_to a_exit a_weights a_inTree a_back a_first a_probes a_joined a_order a_ahead a_met a_way a_ways a_adds a_begins a_hits a_cuts a_gone a_runs a_version a_counts a_known (r + 1) x (nI e)) ∧ (∀ post : Int32 → Prop, post res → wY_covered_108 post g_made g_blocks g_edges g_paths g_many g_lastX g_lastY g_lastBlocks b_op b_number b_kind b_target b_from b_to b_exit b_weight b_firstEdge b_tree b_back b_row b_length b_gone b_done b_went b_cut b_kept b_mark b_way b_tried b_stack (r + 1) x (nI e)) := by
  intro r
  induction r with
  | zero =>
    intro e x he
    exact ⟨x, fun post hp => br_t (by rw [hE, nI_pred]; exact nI_le (by omega) (by omega)) hp, fun post hp => br_t (by rw [hE', nI_pred]; exact nI_le (by omega) (by omega)) hp⟩
  | succ r ih =>
    intro e x he
    have g1 : ¬ f_edges - 1 ≤ nI e := by rw [hE, nI_pred]; exact nI_ge (by omega) (by omega)
    have g2 : ¬ g_edges - 1 ≤ nI e := by rw [hE', nI_pred]; exact nI_ge (by omega) (by omega)
    have hh := h e (by omega)
    by_cases hc : b_gone e ≤ 0
    · obtain ⟨res, p2, p3⟩ := ih (e + 1) x (by omega)
      exact ⟨res, fun post hp => br_f g1 ⟨vp_in_nI (by omega) (by omega), br_t (by rw [nI_clamp (by omega), hh]; exact hc) (nm_r (nI_1 e) (p2 post hp))⟩, fun post hp => br_f g2 ⟨vp_in_nI (by omega) (by omega), br_t (by rw [nI_clamp (by omega)]; exact hc) (nm_r (nI_1 e) (p3 post hp))⟩⟩
    · obtain ⟨res, p2, p3⟩ := ih (e + 1) (x + 1) (by omega)
      exact ⟨res, fun post hp => br_f g1 ⟨vp_in_nI (by omega) (by omega), br_f (by rw [nI_clamp (by omega), hh]; exact hc) (nm_e (nm_r (nI_1 e) (p2 post hp)))⟩, fun post hp => br_f g2 ⟨vp_in_nI (by omega) (by omega), br_f (by rw [nI_clamp (by omega)]; exact hc) (nm_e (nm_r (nI_1 e) (p3 post hp)))⟩⟩
theorem ch_paths {n : Nat} (hn : n ≤ 300) (hP : f_paths = nI n) (hP' : g_paths = nI n) (hM : g_many = 0) (h : ∀ p, p < n → a_gone p = b_went p) : ∀ r e (x : Int32), e + r = n →
    ∃ res : Int32, (∀ post : Int32 → Prop, post res → wX_pathsGone_4 post f_drafted f_blocks f_edges f_probed f_paths f_fresh f_x f_y f_steps a_op a_with a_kind a_target a_from a_to a_exit a_weights a_inTree a_back a_first a_probes a_joined a_order a_ahead a_met a_way a_ways a_adds a_begins a_hits a_cuts a_gone a_runs a_version a_counts a_known (r + 1) x (nI e)) ∧ (∀ post : Int32 → Prop, post res → wY_covered_157 post g_made g_blocks g_edges g_paths g_many g_lastX g_lastY g_lastBlocks b_op b_number b_kind b_target b_from b_to b_exit b_weight b_firstEdge b_tree b_back b_row b_length b_gone b_done b_went b_cut b_kept b_mark b_way b_tried b_stack (r + 1) x (nI e)) := by
  intro r
  induction r with
  | zero =>
    intro e x he
    exact ⟨x, fun post hp => br_t (by rw [hP]; exact nI_le (by omega) (by omega)) hp, fun post hp => br_t (by rw [hP']; exact nI_le (by omega) (by omega)) (br_t hM hp)⟩
  | succ r ih =>
    intro e x he
    have g1 : ¬ f_paths ≤ nI e := by rw [hP]; exact nI_ge (by omega) (by omega)
    have g2 : ¬ g_paths ≤ nI e := by rw [hP']; exact nI_ge (by omega) (by omega)
    have hh := h e (by omega)
    by_cases hc : b_went e ≤ 0
    · obtain ⟨res, p2, p3⟩ := ih (e + 1) x (by omega)
      exact ⟨res, fun post hp => br_f g1 ⟨vp_in_nI (by omega) (by omega), br_t (by rw [nI_clamp (by omega), hh]; exact hc) (nm_r (nI_1 e) (p2 post hp))⟩, fun post hp => br_f g2 ⟨vp_in_nI (by omega) (by omega), br_t (by rw [nI_clamp (by omega)]; exact hc) (nm_r (nI_1 e) (p3 post hp))⟩⟩
    · obtain ⟨res, p2, p3⟩ := ih (e + 1) (x + 1) (by omega)
      exact ⟨res, fun post hp => br_f g1 ⟨vp_in_nI (by omega) (by omega), br_f (by rw [nI_clamp (by omega), hh]; exact hc) (nm_e (nm_r (nI_1 e) (p2 post hp)))⟩, fun post hp => br_f g2 ⟨vp_in_nI (by omega) (by omega), br_f (by rw [nI_clamp (by omega)]; exact hc) (nm_e (nm_r (nI_1 e) (p3 post hp)))⟩⟩
theorem ch_many (hP' : g_paths = nI 300) (hM : g_many = 1) (post : Int32 → Prop) (hp : post (-2)) : ∀ r e (x : Int32), e + r = 300 → wY_covered_157 post g_made g_blocks g_edges g_paths g_many g_lastX g_lastY g_lastBlocks b_op b_number b_kind b_target b_from b_to b_exit b_weight b_firstEdge b_tree b_back b_row b_length b_gone b_done b_went b_cut b_kept b_mark b_way b_tried b_stack (r + 1) x (nI e) := by
  intro r
  induction r with
  | zero =>
    intro e x he
    exact br_t (by rw [hP']; exact nI_le (by omega) (by omega)) (br_f (by rw [hM]; decide) hp)
  | succ r ih =>
    intro e x he
    have g2 : ¬ g_paths ≤ nI e := by rw [hP']; exact nI_ge (by omega) (by omega)
    exact br_f g2 ⟨vp_in_nI (by omega) (by omega), br_c (fun _ => nm_r (nI_1 e) (ih (e + 1) x (by omega))) (fun _ => nm_e (nm_r (nI_1 e) (ih (e + 1) (x + 1) (by omega))))⟩
theorem ch_tree {ne : Nat} {tr : Nat → Nat} (hne : ne ≤ 37) (hE : g_edges = nI ne) (ht : ∀ e, e < ne → tr e ≤ 1 ∧ b_tree e = nI (tr e)) (post : Int32 → Prop) (hp : post (nI (cr_nt tr ne))) : ∀ r e, e + r = ne → wY_covered_199 post g_made g_blocks g_edges g_paths g_many g_lastX g_lastY g_lastBlocks b_op b_number b_kind b_target b_from b_to b_exit b_weight b_firstEdge b_tree b_back b_row b_length b_gone b_done b_went b_cut b_kept b_mark b_way b_tried b_stack (r + 1) (nI (cr_nt tr e)) (nI e) := by
  intro r
  induction r with
  | zero =>
    intro e he
    have e1 : e = ne := by omega
    subst e1
    exact br_t (by rw [hE]; exact nI_le (by omega) (by omega)) hp
  | succ r ih =>
    intro e he
    have g2 : ¬ g_edges ≤ nI e := by rw [hE]; exact nI_ge (by omega) (by omega)
    obtain ⟨t1, t2⟩ := ht e (by omega)
    have hn := ih (e + 1) (by omega)
    have hs : cr_nt tr (e + 1) = cr_nt tr e + (1 - tr e) := rfl
    by_cases h0 : tr e = 0
    · rw [hs, h0] at hn
      exact br_f g2 ⟨vp_in_nI (by omega) (by omega), br_t (by rw [cd_rd rfl (by omega) t2, h0]; rfl) (nm_r (nI_1 _) (nm_r (nI_1 e) hn))⟩
    · rw [hs, show tr e = 1 by omega] at hn
      exact br_f g2 ⟨vp_in_nI (by omega) (by omega), br_f (by rw [cd_rd rfl (by omega) t2]; exact nI_ne0 (by omega) (by omega)) (nm_r (nI_1 e) hn)⟩
theorem ch_cuts {nb : Nat} (hnb : nb ≤ 12) (hB : f_blocks = nI nb) (post : Int32 → Prop) (hp : post (cs_i nb a_cuts)) : ∀ r b, b + r = nb → wX_allCuts_4 post f_drafted f_blocks f_edges f_probed f_paths f_fresh f_x f_y f_steps a_op a_with a_kind a_target a_from a_to a_exit a_weights a_inTree a_back a_first a_probes a_joined a_order a_ahead a_met a_way a_ways a_adds a_begins a_hits a_cuts a_gone a_runs a_version a_counts a_known (r + 1) (cs_i b a_cuts) (nI b) := by
  intro r
  induction r with
  | zero =>
    intro b hb
    have e1 : b = nb := by omega
    subst e1
    exact br_t (by rw [hB]; exact nI_le (by omega) (by omega)) hp
  | succ r ih =>
    intro b hb
    exact br_f (by rw [hB]; exact nI_ge (by omega) (by omega)) ⟨vp_in_nI (by omega) (by omega), nm_r (e' := cs_i (b + 1) a_cuts) (by rw [nI_clamp (by omega)]; rfl) (nm_r (nI_1 b) (ih (b + 1) (by omega)))⟩
end
theorem i_vc_covered {k : Nat} {u : SX} {v : SY} (I : i_Rel k u v) (hk : k + 6 ≤ 3072) (v1 : Int32) : wpX_covered (fun r u' => wpY_covered (fun r' => r' = r ∧ i_Rel (k + 6) u' v) v v1) u v1 := by
  revert I
  refine cr_el (P := fun u v => i_Rel k u v → wpX_covered (fun r u' => wpY_covered (fun r' => r' = r ∧ i_Rel (k + 6) u' v) v v1) u v1) ?_ u v
  intro f_drafted f_blocks f_edges f_probed f_paths f_fresh f_x f_y f_steps a_op a_with a_kind a_target a_from a_to a_exit a_weights a_inTree a_back a_first a_probes a_joined a_order a_ahead a_met a_way a_ways a_adds a_begins a_hits a_cuts a_gone a_runs a_version a_counts a_known g_made g_blocks g_edges g_paths g_many g_lastX g_lastY g_lastBlocks b_op b_number b_kind b_target b_from b_to b_exit b_weight b_firstEdge b_tree b_back b_row b_length b_gone b_done b_went b_cut b_kept b_mark b_way b_tried b_stack
  intro I
  have I6 := i_up I
  have I6' := I6
  obtain ⟨hD, hop, hxy, hV, hB⟩ := I6
  rcases hB with ⟨b1, b2, b3, b4, b5, b6, b7⟩ | ⟨nb, ki, fs, F, T, bk, m, rk, tr, B⟩
  · exact br_t b1 (br_t b5 ⟨rfl, I6'⟩)
  · have mkrel : ∀ fr ct kw, cr_B nb ki fs F T bk m rk tr (f_drafted, f_blocks, f_edges, f_probed, f_paths, fr, f_x, f_y, f_steps, a_op, a_with, a_kind, a_target, a_from, a_to, a_exit, a_weights, a_inTree, a_back, a_first, a_probes, a_joined, a_order, a_ahead, a_met, a_way, a_ways, a_adds, a_begins, a_hits, a_cuts, a_gone, a_runs, a_version, ct, kw) (g_made, g_blocks, g_edges, g_paths, g_many, g_lastX, g_lastY, g_lastBlocks, b_op, b_number, b_kind, b_target, b_from, b_to, b_exit, b_weight, b_firstEdge, b_tree, b_back, b_row, b_length, b_gone, b_done, b_went, b_cut, b_kept, b_mark, b_way, b_tried, b_stack) → i_Rel (k + 6) (f_drafted, f_blocks, f_edges, f_probed, f_paths, fr, f_x, f_y, f_steps, a_op, a_with, a_kind, a_target, a_from, a_to, a_exit, a_weights, a_inTree, a_back, a_first, a_probes, a_joined, a_order, a_ahead, a_met, a_way, a_ways, a_adds, a_begins, a_hits, a_cuts, a_gone, a_runs, a_version, ct, kw) (g_made, g_blocks, g_edges, g_paths, g_many, g_lastX, g_lastY, g_lastBlocks, b_op, b_number, b_kind, b_target, b_from, b_to, b_exit, b_weight, b_firstEdge, b_tree, b_back, b_row, b_length, b_gone, b_done, b_went, b_cut, b_kept, b_mark, b_way, b_tried, b_stack) := fun fr ct kw q => ⟨hD, hop, hxy, hV, Or.inr ⟨nb, ki, fs, F, T, bk, m, rk, tr, q⟩⟩
    have B' := B
    obtain ⟨⟨G, ⟨e1, e2, e3, e4⟩, e5, e6, e7, e8⟩, hK, hDF, hPX, hPY, hw, hT, hS, hS2, hfr⟩ := B
    have hnb := G.2.1
    have hnb1 := G.1
    have hne := cg_ne G
    have hS0 := cl_S0.mp hS
    have hf : ¬ f_blocks = 0 := by rw [e1]; exact nI_ne0 (by omega) (by omega)
    have hg : ¬ g_edges = 0 := by rw [e4]; exact nI_ne0 (by omega) (by omega)
    by_cases h0 : v1 < 0
    · exact br_f hf (br_t h0 (br_f hg (br_t h0 (br_t rfl ⟨rfl, I6'⟩))))
    · by_cases h7 : 7 < v1
      · exact br_f hf (br_f h0 (br_t h7 (br_f hg (br_f h0 (br_t h7 (br_t rfl ⟨rfl, I6'⟩))))))
      · have yin : ∀ post : Int32 → Prop, post 1 → wpY_in post v1 0 7 := fun post hp => br_f h0 (br_f h7 hp)
        obtain ⟨n, hn, rfl⟩ := nI_of2 (x := v1) (M := 7) (n := 7) (by decide) h0 (Int32.not_lt.mp h7)
        have hn8 : n = 0 ∨ n = 1 ∨ n = 2 ∨ n = 3 ∨ n = 4 ∨ n = 5 ∨ n = 6 ∨ n = 7 := by omega
        rcases hn8 with rfl | rfl | rfl | rfl | rfl | rfl | rfl | rfl
        · refine br_f hf (br_f h0 (br_f h7 (br_t rfl ?_)))
          exact br_f hg (yin _ (br_f (by decide) (br_f h0 (br_f (by decide) (br_t rfl ⟨e2.trans e1.symm, I6'⟩)))))
        · obtain ⟨res, fr, ct, kw, p1, p2, p3⟩ := ch_blocks nb 0 0 f_fresh a_counts a_known (by omega) B'
          refine br_f hf (br_f h0 (br_f h7 (br_f (by decide) (br_t rfl ⟨_, p2 _ ?_⟩))))
          exact br_f hg (yin _ (br_f (by decide) (br_f h0 (br_f (by decide) (br_f (by decide) (br_t rfl ⟨_, p3 _ ⟨rfl, mkrel _ _ _ p1⟩⟩))))))
        · refine br_f hf (br_f h0 (br_f h7 (br_f (by decide) (br_f (by decide) (br_t rfl ?_)))))
          exact br_f hg (yin _ (br_f (by decide) (br_f h0 (br_f (by decide) (br_f (by decide) (br_f (by decide) (br_t rfl ⟨by rw [e3, e4], I6'⟩)))))))
        · obtain ⟨ct, kw, q1, q2, q3⟩ := cv_S B'
          obtain ⟨res, p2, p3⟩ := ch_edges (f_drafted := f_drafted) (f_blocks := f_blocks) (f_edges := f_edges) (f_probed := f_probed) (f_paths := f_paths) (f_x := f_x) (f_y := f_y) (f_steps := f_steps) (a_op := a_op) (a_with := a_with) (a_kind := a_kind) (a_target := a_target) (a_from := a_from) (a_to := a_to) (a_exit := a_exit) (a_weights := a_weights) (a_inTree := a_inTree) (a_back := a_back) (a_first := a_first) (a_probes := a_probes) (a_joined := a_joined) (a_order := a_order) (a_ahead := a_ahead) (a_met := a_met) (a_way := a_way) (a_ways := a_ways) (a_adds := a_adds) (a_begins := a_begins) (a_hits := a_hits) (a_cuts := a_cuts) (a_gone := a_gone) (a_runs := a_runs) (a_version := a_version) (f_fresh := 1) (a_counts := ct) (a_known := kw) (g_made := g_made) (g_blocks := g_blocks) (g_edges := g_edges) (g_paths := g_paths) (g_many := g_many) (g_lastX := g_lastX) (g_lastY := g_lastY) (g_lastBlocks := g_lastBlocks) (b_op := b_op) (b_number := b_number) (b_kind := b_kind) (b_target := b_target) (b_from := b_from) (b_to := b_to) (b_exit := b_exit) (b_weight := b_weight) (b_firstEdge := b_firstEdge) (b_tree := b_tree) (b_back := b_back) (b_row := b_row) (b_length := b_length) (b_gone := b_gone) (b_done := b_done) (b_went := b_went) (b_cut := b_cut) (b_kept := b_kept) (b_mark := b_mark) (b_way := b_way) (b_tried := b_tried) (b_stack := b_stack) (n := fs nb) hne e3 e4 q1 (fs nb) 0 0 (by omega)
          refine br_f hf (br_f h0 (br_f h7 (br_f (by decide) (br_f (by decide) (br_f (by decide) (br_t rfl (q3 _ ⟨_, p2 _ ?_⟩)))))))
          exact br_f hg (yin _ (br_f (by decide) (br_f h0 (br_f (by decide) (br_f (by decide) (br_f (by decide) (br_f (by decide) (br_t rfl ⟨_, p3 _ ⟨rfl, mkrel _ _ _ q2⟩⟩))))))))
        · rcases cr_PP hPX hPY with ⟨y1, y2, y3, y4, y5⟩ | ⟨y1, y2, y3, pp, y4, y5, y6⟩
          · refine br_f hf (br_f h0 (br_f h7 (br_f (by decide) (br_f (by decide) (br_f (by decide) (br_f (by decide) (br_t rfl (br_t (by rw [y3]; exact nI_le (b := 300) y2 (by omega)) ?_))))))))
            exact br_f hg (yin _ (br_f (by decide) (br_f h0 (br_f (by decide) (br_f (by decide) (br_f (by decide) (br_f (by decide) (br_f (by decide) (br_t rfl (br_t y1 ⟨y4.trans y3.symm, I6'⟩))))))))))
          · refine br_f hf (br_f h0 (br_f h7 (br_f (by decide) (br_f (by decide) (br_f (by decide) (br_f (by decide) (br_t rfl (br_f (by rw [y6]; exact nI_ge (a := 300) y4 (by omega)) ?_))))))))
            exact br_f hg (yin _ (br_f (by decide) (br_f h0 (br_f (by decide) (br_f (by decide) (br_f (by decide) (br_f (by decide) (br_f (by decide) (br_t rfl (br_f (by rw [y1]; decide) ⟨rfl, I6'⟩))))))))))
        · rcases cr_PP hPX hPY with ⟨y1, y2, y3, y4, y5⟩ | ⟨y1, y2, y3, pp, y4, y5, y6⟩
          · obtain ⟨res, p2, p3⟩ := ch_paths (f_drafted := f_drafted) (f_blocks := f_blocks) (f_edges := f_edges) (f_probed := f_probed) (f_paths := f_paths) (f_fresh := f_fresh) (f_x := f_x) (f_y := f_y) (f_steps := f_steps) (a_op := a_op) (a_with := a_with) (a_kind := a_kind) (a_target := a_target) (a_from := a_from) (a_to := a_to) (a_exit := a_exit) (a_weights := a_weights) (a_inTree := a_inTree) (a_back := a_back) (a_first := a_first) (a_probes := a_probes) (a_joined := a_joined) (a_order := a_order) (a_ahead := a_ahead) (a_met := a_met) (a_way := a_way) (a_ways := a_ways) (a_adds := a_adds) (a_begins := a_begins) (a_hits := a_hits) (a_cuts := a_cuts) (a_gone := a_gone) (a_runs := a_runs) (a_version := a_version) (a_counts := a_counts) (a_known := a_known) (g_made := g_made) (g_blocks := g_blocks) (g_edges := g_edges) (g_paths := g_paths) (g_many := g_many) (g_lastX := g_lastX) (g_lastY := g_lastY) (g_lastBlocks := g_lastBlocks) (b_op := b_op) (b_number := b_number) (b_kind := b_kind) (b_target := b_target) (b_from := b_from) (b_to := b_to) (b_exit := b_exit) (b_weight := b_weight) (b_firstEdge := b_firstEdge) (b_tree := b_tree) (b_back := b_back) (b_row := b_row) (b_length := b_length) (b_gone := b_gone) (b_done := b_done) (b_went := b_went) (b_cut := b_cut) (b_kept := b_kept) (b_mark := b_mark) (b_way := b_way) (b_tried := b_tried) (b_stack := b_stack) (n := (cp_LL nb ki fs T bk nb).length) y2 y3 y4 y1 (fun p hp => hS0.2.2.2.2.2 y2 p hp) (cp_LL nb ki fs T bk nb).length 0 0 (by omega)
            refine br_f hf (br_f h0 (br_f h7 (br_f (by decide) (br_f (by decide) (br_f (by decide) (br_f (by decide) (br_f (by decide) (br_t rfl (br_t (by rw [y3]; exact nI_le (b := 300) y2 (by omega)) ⟨_, p2 _ ?_⟩)))))))))
            exact br_f hg (yin _ (br_f (by decide) (br_f h0 (br_f (by decide) (br_f (by decide) (br_f (by decide) (br_f (by decide) (br_f (by decide) (br_f (by decide) (br_t rfl ⟨_, p3 _ ⟨rfl, I6'⟩⟩))))))))))
          · refine br_f hf (br_f h0 (br_f h7 (br_f (by decide) (br_f (by decide) (br_f (by decide) (br_f (by decide) (br_f (by decide) (br_t rfl (br_f (by rw [y6]; exact nI_ge (a := 300) y4 (by omega)) ?_)))))))))
            exact br_f hg (yin _ (br_f (by decide) (br_f h0 (br_f (by decide) (br_f (by decide) (br_f (by decide) (br_f (by decide) (br_f (by decide) (br_f (by decide) (br_t rfl ⟨_, ch_many (g_made := g_made) (g_blocks := g_blocks) (g_edges := g_edges) (g_paths := g_paths) (g_many := g_many) (g_lastX := g_lastX) (g_lastY := g_lastY) (g_lastBlocks := g_lastBlocks) (b_op := b_op) (b_number := b_number) (b_kind := b_kind) (b_target := b_target) (b_from := b_from) (b_to := b_to) (b_exit := b_exit) (b_weight := b_weight) (b_firstEdge := b_firstEdge) (b_tree := b_tree) (b_back := b_back) (b_row := b_row) (b_length := b_length) (b_gone := b_gone) (b_done := b_done) (b_went := b_went) (b_cut := b_cut) (b_kept := b_kept) (b_mark := b_mark) (b_way := b_way) (b_tried := b_tried) (b_stack := b_stack) y3 y1 _ ⟨rfl, I6'⟩ 300 0 0 (by omega)⟩))))))))))
        · refine br_f hf (br_f h0 (br_f h7 (br_f (by decide) (br_f (by decide) (br_f (by decide) (br_f (by decide) (br_f (by decide) (br_f (by decide) (br_t rfl ?_)))))))))
          exact br_f hg (yin _ (br_f (by decide) (br_f h0 (br_f (by decide) (br_f (by decide) (br_f (by decide) (br_f (by decide) (br_f (by decide) (br_f (by decide) (br_f (by decide) (br_t rfl ⟨_, ch_tree (g_made := g_made) (g_blocks := g_blocks) (g_edges := g_edges) (g_paths := g_paths) (g_many := g_many) (g_lastX := g_lastX) (g_lastY := g_lastY) (g_lastBlocks := g_lastBlocks) (b_op := b_op) (b_number := b_number) (b_kind := b_kind) (b_target := b_target) (b_from := b_from) (b_to := b_to) (b_exit := b_exit) (b_weight := b_weight) (b_firstEdge := b_firstEdge) (b_tree := b_tree) (b_back := b_back) (b_row := b_row) (b_length := b_length) (b_gone := b_gone) (b_done := b_done) (b_went := b_went) (b_cut := b_cut) (b_kept := b_kept) (b_mark := b_mark) (b_way := b_way) (b_tried := b_tried) (b_stack := b_stack) (ne := fs nb + 1) (tr := tr) (by omega) e4 (fun e he => ⟨(hT.1 e he).1, (hT.1 e he).2.2.1⟩) _ ⟨hT.2.2.1.symm, I6'⟩ (fs nb + 1) 0 (by omega)⟩)))))))))))
        · refine br_f hf (br_f h0 (br_f h7 (br_f (by decide) (br_f (by decide) (br_f (by decide) (br_f (by decide) (br_f (by decide) (br_f (by decide) (br_f (by decide) (br_t rfl ⟨_, ch_cuts (f_drafted := f_drafted) (f_blocks := f_blocks) (f_edges := f_edges) (f_probed := f_probed) (f_paths := f_paths) (f_fresh := f_fresh) (f_x := f_x) (f_y := f_y) (f_steps := f_steps) (a_op := a_op) (a_with := a_with) (a_kind := a_kind) (a_target := a_target) (a_from := a_from) (a_to := a_to) (a_exit := a_exit) (a_weights := a_weights) (a_inTree := a_inTree) (a_back := a_back) (a_first := a_first) (a_probes := a_probes) (a_joined := a_joined) (a_order := a_order) (a_ahead := a_ahead) (a_met := a_met) (a_way := a_way) (a_ways := a_ways) (a_adds := a_adds) (a_begins := a_begins) (a_hits := a_hits) (a_cuts := a_cuts) (a_gone := a_gone) (a_runs := a_runs) (a_version := a_version) (a_counts := a_counts) (a_known := a_known) hnb e1 _ ?_ nb 0 (by omega)⟩))))))))))
          exact br_f hg (yin _ (br_f (by decide) (br_f h0 (br_t (by decide) ⟨hS0.2.2.2.1, I6'⟩))))
end
section
/-! dump and merge -/
theorem cf_inc {ne : Nat} {E : Nat → Nat} {g g' : Nat → Int32} {p : Nat} (h : ∀ e, e < ne → g' e = g e) : cf_in ne E g' p = cf_in ne E g p := by
  unfold cf_in
  exact cs_ic (fun i hi => by rw [h i hi])
theorem cf_CSc {nb : Nat} {ki fs F T bk tr : Nat → Nat} {h c w : Nat → Int32} {r : Int32} {g d y : Nat → Int32} {k : Int32} {h' c' w' : Nat → Int32} {r' : Int32} {g' d' y' : Nat → Int32} {k' : Int32} (hne : fs nb < 37) (hnb : nb ≤ 12)
    (A : cf_CS nb ki fs F T bk tr h c w r g d y k) (h1 : ∀ e, e < 37 → h' e = h e) (h2 : ∀ b, b < 12 → c' b = c b) (h3 : ∀ p, p < 300 → w' p = w p) (h4 : r' = r) (h5 : ∀ e, e < 37 → g' e = g e) (h6 : ∀ b, b < 12 → d' b = d b) (h7 : ∀ p, p < 300 → y' p = y p) (h8 : k' = k) :
    cf_CS nb ki fs F T bk tr h' c' w' r' g' d' y' k' := by
  obtain ⟨a1, a2, a3, a4, a5, a6⟩ := A
  have hc : cs_i nb c' = cs_i nb c := cs_ic (fun i hi => h2 i (by omega))
  have hin : ∀ E p, cf_in (fs nb + 1) E g' p = cf_in (fs nb + 1) E g p := fun E p => cf_inc (fun e he => h5 e (by omega))
  refine ⟨fun e he ht => by rw [h1 e (by omega), h5 e (by omega)]; exact a1 e he ht, fun p hp => ?_, fun b hb => ?_, ?_, ?_, fun hl p hp => by rw [h3 p (by omega), h7 p (by omega)]; exact a6 hl p hp⟩
  · have := a2 p hp
    unfold cf_bal cf_c at *
    rw [hin, hin, hc]
    rcases hp with hp | hp
    · rw [if_neg (by omega)] at this ⊢; rw [h2 p (by omega)]; exact this
    · rw [if_pos hp] at this ⊢; exact this
  · rw [hin, h6 b (by omega), h2 b (by omega)]; exact a3 b hb
  · rw [hc, h8]; exact a4
  · rw [h4, h5 _ (by omega)]; exact a5
theorem i_vc_dump {k : Nat} {u : SX} {v : SY} (I : i_Rel k u v) (hk : k + 6 ≤ 3072) (v1 : Int32) : wpX_dump (fun r u' => wpY_dump (fun r' v' => r' = r ∧ i_Rel (k + 6) u' v') v v1) u v1 := by
  revert I
  refine cr_el (P := fun u v => i_Rel k u v → wpX_dump (fun r u' => wpY_dump (fun r' v' => r' = r ∧ i_Rel (k + 6) u' v') v v1) u v1) ?_ u v
  intro f_drafted f_blocks f_edges f_probed f_paths f_fresh f_x f_y f_steps a_op a_with a_kind a_target a_from a_to a_exit a_weights a_inTree a_back a_first a_probes a_joined a_order a_ahead a_met a_way a_ways a_adds a_begins a_hits a_cuts a_gone a_runs a_version a_counts a_known g_made g_blocks g_edges g_paths g_many g_lastX g_lastY g_lastBlocks b_op b_number b_kind b_target b_from b_to b_exit b_weight b_firstEdge b_tree b_back b_row b_length b_gone b_done b_went b_cut b_kept b_mark b_way b_tried b_stack
  intro I
  have I6 := i_up I
  have I6' := I6
  obtain ⟨hD, hop, hxy, hV, hB⟩ := I6
  rcases cw_in v1 2 (by omega) (M := 1) (by decide) with ⟨d, hd, rfl, hX, hY⟩ | ⟨_, hX, hY⟩
  · rcases hB with ⟨b1, b2, b3, b4, b5, b6, b7⟩ | ⟨nb, ki, fs, F, T, bk, m, rk, tr, B⟩
    · unfold wpX_dump; refine hX _ ?_; refine br_f (by decide) (br_t b1 ?_)
      unfold wpY_dump; refine hY _ ?_
      exact br_f (by decide) (br_t b5 ⟨rfl, I6'⟩)
    · obtain ⟨⟨G, ⟨e1, e2, e3, e4⟩, e5, e6, e7, e8⟩, hK, hDF, hPX, hPY, hw, hT, hS, hS2, hfr⟩ := B
      have hnb := G.2.1
      have hnb1 := G.1
      have hne := cg_ne G
      have hS0 := cl_S0.mp hS
      have hf : ¬ f_blocks = 0 := by rw [e1]; exact nI_ne0 (by omega) (by omega)
      have hg : ¬ g_edges = 0 := by rw [e4]; exact nI_ne0 (by omega) (by omega)
      obtain ⟨h, c, w, ⟨x1, x2⟩, ⟨x3, x4⟩, ⟨x5, x6⟩, x7⟩ := cw_br0 (f_drafted := f_drafted) (f_blocks := f_blocks) (f_edges := f_edges) (f_probed := f_probed) (f_paths := f_paths) (f_fresh := f_fresh) (f_x := f_x) (f_y := f_y) (f_steps := f_steps) (a_op := a_op) (a_with := a_with) (a_kind := a_kind) (a_target := a_target) (a_from := a_from) (a_to := a_to) (a_exit := a_exit) (a_weights := a_weights) (a_inTree := a_inTree) (a_back := a_back) (a_first := a_first) (a_probes := a_probes) (a_joined := a_joined) (a_order := a_order) (a_ahead := a_ahead) (a_met := a_met) (a_way := a_way) (a_ways := a_ways) (a_adds := a_adds) (a_begins := a_begins) (a_hits := a_hits) (a_cuts := a_cuts) (a_gone := a_gone) (a_runs := a_runs) (a_version := a_version) (a_counts := a_counts) (a_known := a_known) (A := 0) (B := d + 1) (by omega) (by omega) (by omega) (x1 := 0) (x2 := nI d + 1) rfl (nI_1 d)
      obtain ⟨h', c', w', ⟨y1, y2⟩, ⟨y3, y4⟩, ⟨y5, y6⟩, y7⟩ := cw_ydump (g_made := g_made) (g_blocks := g_blocks) (g_edges := g_edges) (g_paths := g_paths) (g_many := g_many) (g_lastX := g_lastX) (g_lastY := g_lastY) (g_lastBlocks := g_lastBlocks) (b_op := b_op) (b_number := b_number) (b_kind := b_kind) (b_target := b_target) (b_from := b_from) (b_to := b_to) (b_exit := b_exit) (b_weight := b_weight) (b_firstEdge := b_firstEdge) (b_tree := b_tree) (b_back := b_back) (b_row := b_row) (b_length := b_length) (b_gone := b_gone) (b_done := b_done) (b_went := b_went) (b_cut := b_cut) (b_kept := b_kept) (b_mark := b_mark) (b_way := b_way) (b_tried := b_tried) (b_stack := b_stack) hd
      obtain ⟨zh, zc, zw, z1, z2, z3, z4, z5, z6, z7⟩ := cw_zero (f_drafted := f_drafted) (f_blocks := f_blocks) (f_edges := f_edges) (f_probed := f_probed) (f_paths := f_paths) (f_fresh := f_fresh) (f_x := f_x) (f_y := f_y) (f_steps := f_steps) (a_op := a_op) (a_with := a_with) (a_kind := a_kind) (a_target := a_target) (a_from := a_from) (a_to := a_to) (a_exit := a_exit) (a_weights := a_weights) (a_inTree := a_inTree) (a_back := a_back) (a_first := a_first) (a_probes := a_probes) (a_joined := a_joined) (a_order := a_order) (a_ahead := a_ahead) (a_met := a_met) (a_way := a_way) (a_ways := a_ways) (a_adds := a_adds) (a_begins := a_begins) (a_counts := a_counts) (a_known := a_known) (a_hits := h) (a_cuts := c) (a_gone := w) (a_runs := upd a_runs (d + 1) (a_runs 0 + 0)) (a_version := upd a_version (d + 1) (a_version 0))
      obtain ⟨uh, uc, uw, u1, u2, u3, u4, u5, u6, u7⟩ := cw_empty (g_made := g_made) (g_blocks := g_blocks) (g_edges := g_edges) (g_paths := g_paths) (g_many := g_many) (g_lastX := g_lastX) (g_lastY := g_lastY) (g_lastBlocks := g_lastBlocks) (b_op := b_op) (b_number := b_number) (b_kind := b_kind) (b_target := b_target) (b_from := b_from) (b_to := b_to) (b_exit := b_exit) (b_weight := b_weight) (b_firstEdge := b_firstEdge) (b_tree := b_tree) (b_back := b_back) (b_row := b_row) (b_length := b_length) (b_mark := b_mark) (b_way := b_way) (b_tried := b_tried) (b_stack := b_stack) (b_gone := h') (b_done := c') (b_went := w') (b_cut := upd b_cut (1 + d) (b_cut 0)) (b_kept := upd b_kept d 1)
      unfold wpX_dump; refine hX _ ?_
      refine br_f (by decide) (br_f hf (x7 _ ⟨pk_in (d + 1) 3 (by omega) (hx := nI_1 d), nm_r (cd_up (nI_1 d) (by omega) rfl) (z7 _ ?_)⟩))
      unfold wpY_dump; refine hY _ ?_
      refine br_f (by decide) (br_f hg (y7 _ (u7 _ ?_)))
      refine ⟨rfl, hD, hop, hxy, ?_, Or.inr ⟨nb, ki, fs, F, T, bk, m, rk, tr, ⟨G, ⟨e1, e2, e3, e4⟩, e5, e6, e7, e8⟩, hK, hDF, hPX, hPY, hw, hT, ?_, fun q hq => ?_, Or.inl rfl⟩⟩
      · obtain ⟨vv, v1', v2'⟩ := hV
        refine ⟨cs_u vv (d + 1) (vv 0), by rw [cs_un (by omega)]; exact v1', fun i hi => ⟨cd_pu (v2' 0 (by omega)).1 (fun _ => (v2' i hi).1), ?_⟩⟩
        rw [cs_un (show 0 ≠ d + 1 by omega)]
        by_cases ei : i = d + 1
        · rw [ei, cs_us]; exact Nat.le_refl _
        · rw [cs_un ei]; exact (v2' i hi).2
      · exact cl_S0.mpr (cf_CS0 hne hnb z1 z3 z5 pk_us u1 u3 u5 pk_us)
      · rw [pk_un (show 0 ≠ d + 1 by omega)]
        by_cases eq : q = d
        · subst eq
          refine Or.inr ⟨pk_us, pk_us, ?_⟩
          refine cf_CSc hne hnb hS0 (fun e he => ?_) (fun b hb => ?_) (fun p hp => ?_) ?_ (fun e he => ?_) (fun b hb => ?_) (fun p hp => ?_) ?_
          · rw [z2 _ (by omega), x1 e he]; exact congrArg a_hits (by omega)
          · rw [z4 _ (by omega), x3 b hb]; exact congrArg a_cuts (by omega)
          · rw [z6 _ (by omega), x5 p hp]; exact congrArg a_gone (by omega)
          · rw [pk_un (by omega), pk_us]; exact Int32.add_zero _
          · rw [u2 _ (by omega), show 37 * (q + 1) + e = 37 + 37 * q + e by omega, y1 e he]
          · rw [u4 _ (by omega), show 12 * (q + 1) + b = 12 + 12 * q + b by omega, y3 b hb]
          · rw [u6 _ (by omega), show 300 * (q + 1) + p = 300 + 300 * q + p by omega, y5 p hp]
          · rw [pk_un (by omega), Nat.add_comm, pk_us]
        · rw [pk_un eq, pk_un (show q + 1 ≠ d + 1 by omega)]
          rcases hS2 q hq with hl | ⟨s1, s2, s3⟩
          · exact Or.inl hl
          · refine Or.inr ⟨s1, s2, ?_⟩
            refine cf_CSc hne hnb s3 (fun e he => ?_) (fun b hb => ?_) (fun p hp => ?_) ?_ (fun e he => ?_) (fun b hb => ?_) (fun p hp => ?_) ?_
            · rw [z2 _ (by omega), x2 _ (by omega)]
            · rw [z4 _ (by omega), x4 _ (by omega)]
            · rw [z6 _ (by omega), x6 _ (by omega)]
            · rw [pk_un (by omega), pk_un (by omega)]
            · rw [u2 _ (by omega), y2 _ (by omega)]
            · rw [u4 _ (by omega), y4 _ (by omega)]
            · rw [u6 _ (by omega), y6 _ (by omega)]
            · rw [pk_un (by omega), pk_un (by omega)]
  · unfold wpX_dump; refine hX _ ?_; refine br_t rfl ?_
    unfold wpY_dump; refine hY _ ?_
    exact br_t rfl ⟨rfl, I6'⟩
theorem cw_im (d n : Nat) : 36 + 37 * nI d + nI (n + 1) = nI (37 * (d + 1) + n) := by
  rw [show (36 : Int32) = nI 36 from rfl, show (37 : Int32) = nI 37 from rfl, pk_mul, nI_add, nI_add]
  exact congrArg nI (by omega)
theorem i_vc_merge {k : Nat} {u : SX} {v : SY} (I : i_Rel k u v) (hk : k + 6 ≤ 3072) (v1 : Int32) : wpX_merge (fun r u' => wpY_merge (fun r' v' => r' = r ∧ i_Rel (k + 6) u' v') v v1) u v1 := by
  revert I
  refine cr_el (P := fun u v => i_Rel k u v → wpX_merge (fun r u' => wpY_merge (fun r' v' => r' = r ∧ i_Rel (k + 6) u' v') v v1) u v1) ?_ u v
  intro f_drafted f_blocks f_edges f_probed f_paths f_fresh f_x f_y f_steps a_op a_with a_kind a_target a_from a_to a_exit a_weights a_inTree a_back a_first a_probes a_joined a_order a_ahead a_met a_way a_ways a_adds a_begins a_hits a_cuts a_gone a_runs a_version a_counts a_known g_made g_blocks g_edges g_paths g_many g_lastX g_lastY g_lastBlocks b_op b_number b_kind b_target b_from b_to b_exit b_weight b_firstEdge b_tree b_back b_row b_length b_gone b_done b_went b_cut b_kept b_mark b_way b_tried b_stack
  intro I
  have I6 := i_up I
  have I6' := I6
  obtain ⟨hD, hop, hxy, hV, hB⟩ := I6
  rcases cw_in v1 2 (by omega) (M := 1) (by decide) with ⟨d, hd, rfl, hX, hY⟩ | ⟨_, hX, hY⟩
  · rcases hB with ⟨b1, b2, b3, b4, b5, b6, b7⟩ | ⟨nb, ki, fs, F, T, bk, m, rk, tr, B⟩
    · have hk0 : b_kept d = 0 := by
        have hd' : d = 0 ∨ d = 1 := by omega
        rcases hd' with rfl | rfl
        · exact b6
        · exact b7
      unfold wpX_merge; refine hX _ ?_; refine br_f (by decide) (br_t b1 ?_)
      unfold wpY_merge; refine hY _ ?_
      exact br_f (by decide) ⟨vp_in_nI (by omega) (by omega), br_t (cd_rd rfl (by omega) hk0) ⟨rfl, I6'⟩⟩
    · obtain ⟨⟨G, ⟨e1, e2, e3, e4⟩, e5, e6, e7, e8⟩, hK, hDF, hPX, hPY, hw, hT, hS, hS2, hfr⟩ := B
      have hnb := G.2.1
      have hnb1 := G.1
      have hne := cg_ne G
      have hS0 := cl_S0.mp hS
      have hf : ¬ f_blocks = 0 := by rw [e1]; exact nI_ne0 (by omega) (by omega)
      have hin3 : vp_in (nI d + 1) 3 := pk_in (d + 1) 3 (by omega) (hx := nI_1 d)
      rcases hS2 d hd with ⟨s1, s2⟩ | ⟨s1, s2, s3⟩
      · unfold wpX_merge; refine hX _ ?_
        refine br_f (by decide) (br_f hf ⟨hin3, br_f (by rw [cd_rd (a := a_version) (nI_1 d) (by omega) rfl]; exact s2) ?_⟩)
        unfold wpY_merge; refine hY _ ?_
        exact br_f (by decide) ⟨vp_in_nI (by omega) (by omega), br_t (cd_rd rfl (by omega) s1) ⟨rfl, I6'⟩⟩
      · obtain ⟨n0, n1, n2, n3⟩ := hS0.2.2.2.2.1
        obtain ⟨m0, m1, m2, m3⟩ := s3.2.2.2.2.1
        have hver : a_version (nI d + 1).toNatClampNeg = a_version 0 := by rw [cd_rd (a := a_version) (nI_1 d) (by omega) rfl]; exact s2
        have hsX : a_runs 0 + a_runs (nI d + 1).toNatClampNeg = nI n0 + nI m0 := by rw [cd_rd (nI_1 d) (by omega) m2, n2]
        have gE : g_edges - 1 = nI (fs nb) := by rw [e4, nI_pred]
        have gI : 36 + 37 * nI d + g_edges = nI (37 * (d + 1) + fs nb) := by rw [e4]; exact cw_im d (fs nb)
        have hsY : b_gone (g_edges - 1).toNatClampNeg + b_gone (36 + 37 * nI d + g_edges).toNatClampNeg = nI n0 + nI m0 := by rw [cd_rd gE (by omega) n3, cd_rd gI (by omega) m3]
        have hkn : ¬ b_kept (nI d).toNatClampNeg = 0 := by rw [cd_rd rfl (by omega) s1]; decide
        have yin1 : vp_in (g_edges - 1) 111 := pk_in (fs nb) 111 (by omega) (hx := gE)
        have yin2 : vp_in (36 + 37 * nI d + g_edges) 111 := pk_in (37 * (d + 1) + fs nb) 111 (by omega) (hx := gI)
        by_cases hle : nI n0 + nI m0 ≤ 1000000
        · obtain ⟨h, c, w, ⟨x1, x2⟩, ⟨x3, x4⟩, ⟨x5, x6⟩, x7⟩ := cw_br1 (f_drafted := f_drafted) (f_blocks := f_blocks) (f_edges := f_edges) (f_probed := f_probed) (f_paths := f_paths) (f_fresh := f_fresh) (f_x := f_x) (f_y := f_y) (f_steps := f_steps) (a_op := a_op) (a_with := a_with) (a_kind := a_kind) (a_target := a_target) (a_from := a_from) (a_to := a_to) (a_exit := a_exit) (a_weights := a_weights) (a_inTree := a_inTree) (a_back := a_back) (a_first := a_first) (a_probes := a_probes) (a_joined := a_joined) (a_order := a_order) (a_ahead := a_ahead) (a_met := a_met) (a_way := a_way) (a_ways := a_ways) (a_adds := a_adds) (a_begins := a_begins) (a_hits := a_hits) (a_cuts := a_cuts) (a_gone := a_gone) (a_runs := a_runs) (a_version := a_version) (a_counts := a_counts) (a_known := a_known) (A := d + 1) (B := 0) (by omega) (by omega) (by omega) (x1 := nI d + 1) (x2 := 0) (nI_1 d) rfl
          obtain ⟨h', c', w', ⟨y1, y2⟩, ⟨y3, y4⟩, ⟨y5, y6⟩, y7⟩ := cw_ymerge (g_made := g_made) (g_blocks := g_blocks) (g_edges := g_edges) (g_paths := g_paths) (g_many := g_many) (g_lastX := g_lastX) (g_lastY := g_lastY) (g_lastBlocks := g_lastBlocks) (b_op := b_op) (b_number := b_number) (b_kind := b_kind) (b_target := b_target) (b_from := b_from) (b_to := b_to) (b_exit := b_exit) (b_weight := b_weight) (b_firstEdge := b_firstEdge) (b_tree := b_tree) (b_back := b_back) (b_row := b_row) (b_length := b_length) (b_gone := b_gone) (b_done := b_done) (b_went := b_went) (b_cut := b_cut) (b_kept := b_kept) (b_mark := b_mark) (b_way := b_way) (b_tried := b_tried) (b_stack := b_stack) hd
          unfold wpX_merge; refine hX _ ?_
          refine br_f (by decide) (br_f hf ⟨hin3, br_t hver ⟨hin3, br_t (by rw [hsX]; exact hle) (x7 _ ?_)⟩⟩)
          unfold wpY_merge; refine hY _ ?_
          refine br_f (by decide) ⟨vp_in_nI (by omega) (by omega), br_f hkn ⟨yin1, yin2, br_t (by rw [hsY]; exact hle) (y7 _ ?_)⟩⟩
          refine ⟨rfl, hD, hop, hxy, hV, Or.inr ⟨nb, ki, fs, F, T, bk, m, rk, tr, ⟨G, ⟨e1, e2, e3, e4⟩, e5, e6, e7, e8⟩, hK, hDF, hPX, hPY, hw, hT, ?_, fun q hq => ?_, Or.inl rfl⟩⟩
          · refine cl_S0.mpr (cf_CSa hne hnb hS0 s3 (by rw [n2, m2]; exact hle) (fun e he => ?_) (fun b hb => ?_) (fun p hp => ?_) ?_ (fun e he => ?_) (fun b hb => ?_) (fun p hp => ?_) ?_)
            · have := x1 e he; simp only [Nat.mul_zero, Nat.zero_add] at this; exact this
            · have := x3 b hb; simp only [Nat.mul_zero, Nat.zero_add] at this; exact this
            · have := x5 p hp; simp only [Nat.mul_zero, Nat.zero_add] at this; exact this
            · exact pk_us
            · rw [y1 e he]; exact congrArg (b_gone e + b_gone ·) (by omega)
            · rw [y3 b hb]; exact congrArg (b_done b + b_done ·) (by omega)
            · rw [y5 p hp]; exact congrArg (b_went p + b_went ·) (by omega)
            · rw [pk_us]; exact congrArg (b_cut 0 + b_cut ·) (by omega)
          · rcases hS2 q hq with hl | ⟨t1, t2, t3⟩
            · exact Or.inl hl
            · refine Or.inr ⟨t1, t2, ?_⟩
              refine cf_CSc hne hnb t3 (fun e he => x2 _ (by omega)) (fun b hb => x4 _ (by omega)) (fun p hp => x6 _ (by omega)) (pk_un (by omega)) (fun e he => y2 _ (by omega)) (fun b hb => y4 _ (by omega)) (fun p hp => y6 _ (by omega)) (pk_un (by omega))
        · unfold wpX_merge; refine hX _ ?_
          refine br_f (by decide) (br_f hf ⟨hin3, br_t hver ⟨hin3, br_f (by rw [hsX]; exact hle) ?_⟩⟩)
          unfold wpY_merge; refine hY _ ?_
          exact br_f (by decide) ⟨vp_in_nI (by omega) (by omega), br_f hkn ⟨yin1, yin2, br_f (by rw [hsY]; exact hle) ⟨rfl, I6'⟩⟩⟩
  · unfold wpX_merge; refine hX _ ?_; refine br_t rfl ?_
    unfold wpY_merge; refine hY _ ?_
    exact br_t rfl ⟨rfl, I6'⟩
end
section
/-! run: work and choice -/
theorem pk_and (x : Int32) {m : Int32} (k : Nat) (hm : m.toBitVec.toNat = 2 ^ k - 1) : x &&& m = nI (x.toBitVec.toNat % 2 ^ k) := by
  apply Int32.toBitVec_inj.mp
  apply BitVec.eq_of_toNat_eq
  rw [Int32.toBitVec_and, BitVec.toNat_and, hm, Nat.and_two_pow_sub_one_eq_mod]
  show _ = (BitVec.ofNat 32 _).toNat
  rw [BitVec.toNat_ofNat]
  exact (Nat.mod_eq_of_lt (Nat.lt_of_le_of_lt (Nat.mod_le _ _) x.toBitVec.isLt)).symm
theorem cu_odd (x : Int32) : (x &&& 1) = 1 ↔ ¬ (x - x / 2 * 2) = 0 := by
  have h1 : x &&& 1 = nI (x.toBitVec.toNat % 2) := pk_and x 1 (by decide)
  have h2 := rem_toInt x 2
  have e2 : (2 : Int32).toInt = 2 := by decide
  have e0 : (0 : Int32).toInt = 0 := by decide
  rw [e2] at h2
  have h3 := tmod_bounds (a := x.toInt) (M := 2) (by omega)
  have h4 := Int.mul_tdiv_add_tmod x.toInt 2
  have h5 : x.toInt = if 2 * x.toBitVec.toNat < 2 ^ 32 then (x.toBitVec.toNat : Int) else (x.toBitVec.toNat : Int) - (2 ^ 32 : Nat) := BitVec.toInt_eq_toNat_cond x.toBitVec
  have h6 : (x - x / 2 * 2) = 0 ↔ x.toInt.tmod 2 = 0 := by rw [← Int32.toInt_inj, h2, e0]
  have h7 : (x &&& 1) = 1 ↔ x.toBitVec.toNat % 2 = 1 := by
    rw [h1]
    exact ⟨fun h => cd_im (b := 1) h (by omega) (by omega), fun h => by rw [h]; rfl⟩
  rw [h6, h7]
  split at h5 <;> omega
theorem cu_three (x : Int32) : ∃ j : Nat, j < 3 ∧ ((0 ≤ x - x / 3 * 3 ∧ x - x / 3 * 3 = nI j) ∨ (¬ 0 ≤ x - x / 3 * 3 ∧ x - x / 3 * 3 + 3 = nI j)) ∧ (x - x / 3 * 3 + 3) - (x - x / 3 * 3 + 3) / 3 * 3 = nI j := by
  have h2 := rem_toInt x 3
  have e3 : (3 : Int32).toInt = 3 := by decide
  rw [e3] at h2
  have h3 := tmod_bounds (a := x.toInt) (M := 3) (by omega)
  generalize x - x / 3 * 3 = r at *
  generalize x.toInt.tmod 3 = t at *
  have key : ∀ c : Int32, c.toInt = t → r = c := fun c hc => Int32.toInt_inj.mp (h2.trans hc.symm)
  have h5 : t = -2 ∨ t = -1 ∨ t = 0 ∨ t = 1 ∨ t = 2 := by omega
  rcases h5 with rfl | rfl | rfl | rfl | rfl
  · rw [key (-2) (by decide)]; exact ⟨1, by omega, by decide, by decide⟩
  · rw [key (-1) (by decide)]; exact ⟨2, by omega, by decide, by decide⟩
  · rw [key 0 (by decide)]; exact ⟨0, by omega, by decide, by decide⟩
  · rw [key 1 (by decide)]; exact ⟨1, by omega, by decide, by decide⟩
  · rw [key 2 (by decide)]; exact ⟨2, by omega, by decide, by decide⟩
section
variable {f_drafted f_blocks f_edges f_probed f_paths f_fresh f_x f_y f_steps : Int32} {a_op a_with a_kind a_target a_from a_to a_exit a_weights a_inTree a_back a_first a_probes a_joined a_order a_ahead a_met a_way a_ways a_adds a_begins a_hits a_cuts a_gone a_runs a_version a_counts a_known : Nat → Int32} {g_made g_blocks g_edges g_paths g_many g_lastX g_lastY g_lastBlocks : Int32} {b_op b_number b_kind b_target b_from b_to b_exit b_weight b_firstEdge b_tree b_back b_row b_length b_gone b_done b_went b_cut b_kept b_mark b_way b_tried b_stack : Nat → Int32}
theorem cu_work {b o : Nat} (hb : b < 12) (ho : o ≤ 7) (hop : a_op (12 + b) = nI o) (h1 : f_x = g_lastX) (h2 : f_y = g_lastY) :
    ∃ x y : Int32, (∀ post : SX → Prop, post (f_drafted, f_blocks, f_edges, f_probed, f_paths, f_fresh, x, y, f_steps, a_op, a_with, a_kind, a_target, a_from, a_to, a_exit, a_weights, a_inTree, a_back, a_first, a_probes, a_joined, a_order, a_ahead, a_met, a_way, a_ways, a_adds, a_begins, a_hits, a_cuts, a_gone, a_runs, a_version, a_counts, a_known) → wpX_work post (f_drafted, f_blocks, f_edges, f_probed, f_paths, f_fresh, f_x, f_y, f_steps, a_op, a_with, a_kind, a_target, a_from, a_to, a_exit, a_weights, a_inTree, a_back, a_first, a_probes, a_joined, a_order, a_ahead, a_met, a_way, a_ways, a_adds, a_begins, a_hits, a_cuts, a_gone, a_runs, a_version, a_counts, a_known) (nI b)) ∧ (∀ post : SY → Prop, post (g_made, g_blocks, g_edges, g_paths, g_many, x, y, g_lastBlocks, b_op, b_number, b_kind, b_target, b_from, b_to, b_exit, b_weight, b_firstEdge, b_tree, b_back, b_row, b_length, b_gone, b_done, b_went, b_cut, b_kept, b_mark, b_way, b_tried, b_stack) → wpY_work post (g_made, g_blocks, g_edges, g_paths, g_many, g_lastX, g_lastY, g_lastBlocks, b_op, b_number, b_kind, b_target, b_from, b_to, b_exit, b_weight, b_firstEdge, b_tree, b_back, b_row, b_length, b_gone, b_done, b_went, b_cut, b_kept, b_mark, b_way, b_tried, b_stack) (nI o) (a_with (12 + b))) := by
  subst h1 h2
  have hin : vp_in (12 + nI b) 24 := pk_in (12 + b) 24 (by omega) (hx := nI_add 12 b)
  have ra : a_with (12 + nI b).toNatClampNeg = a_with (12 + b) := cd_rd (nI_add 12 b) (by omega) rfl
  have ro : a_op (12 + nI b).toNatClampNeg = nI o := cd_rd (nI_add 12 b) (by omega) hop
  have ent : ∀ (post : SX → Prop), ((nI o < 1 → (post (f_drafted, f_blocks, f_edges, f_probed, f_paths, f_fresh, f_x, f_y, f_steps, a_op, a_with, a_kind, a_target, a_from, a_to, a_exit, a_weights, a_inTree, a_back, a_first, a_probes, a_joined, a_order, a_ahead, a_met, a_way, a_ways, a_adds, a_begins, a_hits, a_cuts, a_gone, a_runs, a_version, a_counts, a_known))) ∧ (¬ nI o < 1 → (((7 < nI o → (post (f_drafted, f_blocks, f_edges, f_probed, f_paths, f_fresh, f_x, f_y, f_steps, a_op, a_with, a_kind, a_target, a_from, a_to, a_exit, a_weights, a_inTree, a_back, a_first, a_probes, a_joined, a_order, a_ahead, a_met, a_way, a_ways, a_adds, a_begins, a_hits, a_cuts, a_gone, a_runs, a_version, a_counts, a_known))) ∧ (¬ 7 < nI o → (((nI o = 1 → (∀ f_x_8 : Int32, f_x_8 = f_x + a_with (12 + b) → (post (f_drafted, f_blocks, f_edges, f_probed, f_paths, f_fresh, f_x_8, f_y, f_steps, a_op, a_with, a_kind, a_target, a_from, a_to, a_exit, a_weights, a_inTree, a_back, a_first, a_probes, a_joined, a_order, a_ahead, a_met, a_way, a_ways, a_adds, a_begins, a_hits, a_cuts, a_gone, a_runs, a_version, a_counts, a_known)))) ∧ (¬ nI o = 1 → (((nI o = 2 → (∀ f_y_10 : Int32, f_y_10 = f_y + a_with (12 + b) → (post (f_drafted, f_blocks, f_edges, f_probed, f_paths, f_fresh, f_x, f_y_10, f_steps, a_op, a_with, a_kind, a_target, a_from, a_to, a_exit, a_weights, a_inTree, a_back, a_first, a_probes, a_joined, a_order, a_ahead, a_met, a_way, a_ways, a_adds, a_begins, a_hits, a_cuts, a_gone, a_runs, a_version, a_counts, a_known)))) ∧ (¬ nI o = 2 → (((nI o = 3 → (post (f_drafted, f_blocks, f_edges, f_probed, f_paths, f_fresh, f_y, f_y, f_steps, a_op, a_with, a_kind, a_target, a_from, a_to, a_exit, a_weights, a_inTree, a_back, a_first, a_probes, a_joined, a_order, a_ahead, a_met, a_way, a_ways, a_adds, a_begins, a_hits, a_cuts, a_gone, a_runs, a_version, a_counts, a_known))) ∧ (¬ nI o = 3 → (((nI o = 4 → (∀ f_y_13 : Int32, f_y_13 = f_y - f_x → (post (f_drafted, f_blocks, f_edges, f_probed, f_paths, f_fresh, f_x, f_y_13, f_steps, a_op, a_with, a_kind, a_target, a_from, a_to, a_exit, a_weights, a_inTree, a_back, a_first, a_probes, a_joined, a_order, a_ahead, a_met, a_way, a_ways, a_adds, a_begins, a_hits, a_cuts, a_gone, a_runs, a_version, a_counts, a_known)))) ∧ (¬ nI o = 4 → (((nI o = 5 → (post (f_drafted, f_blocks, f_edges, f_probed, f_paths, f_fresh, a_with (12 + b), f_y, f_steps, a_op, a_with, a_kind, a_target, a_from, a_to, a_exit, a_weights, a_inTree, a_back, a_first, a_probes, a_joined, a_order, a_ahead, a_met, a_way, a_ways, a_adds, a_begins, a_hits, a_cuts, a_gone, a_runs, a_version, a_counts, a_known))) ∧ (¬ nI o = 5 → (((nI o = 6 → (post (f_drafted, f_blocks, f_edges, f_probed, f_paths, f_fresh, f_y, f_x, f_steps, a_op, a_with, a_kind, a_target, a_from, a_to, a_exit, a_weights, a_inTree, a_back, a_first, a_probes, a_joined, a_order, a_ahead, a_met, a_way, a_ways, a_adds, a_begins, a_hits, a_cuts, a_gone, a_runs, a_version, a_counts, a_known))) ∧ (¬ nI o = 6 → (((nI o = 7 → (∀ f_y_17 : Int32, f_y_17 = f_y * a_with (12 + b) → (post (f_drafted, f_blocks, f_edges, f_probed, f_paths, f_fresh, f_x, f_y_17, f_steps, a_op, a_with, a_kind, a_target, a_from, a_to, a_exit, a_weights, a_inTree, a_back, a_first, a_probes, a_joined, a_order, a_ahead, a_met, a_way, a_ways, a_adds, a_begins, a_hits, a_cuts, a_gone, a_runs, a_version, a_counts, a_known)))) ∧ (¬ nI o = 7 → (True))))))))))))))))))))))))))) → wpX_work post (f_drafted, f_blocks, f_edges, f_probed, f_paths, f_fresh, f_x, f_y, f_steps, a_op, a_with, a_kind, a_target, a_from, a_to, a_exit, a_weights, a_inTree, a_back, a_first, a_probes, a_joined, a_order, a_ahead, a_met, a_way, a_ways, a_adds, a_begins, a_hits, a_cuts, a_gone, a_runs, a_version, a_counts, a_known) (nI b) := by
    intro post h
    exact And.intro hin (nm_r ra ⟨hin, nm_r ro h⟩)
  have ho8 : o = 0 ∨ o = 1 ∨ o = 2 ∨ o = 3 ∨ o = 4 ∨ o = 5 ∨ o = 6 ∨ o = 7 := by omega
  rcases ho8 with rfl | rfl | rfl | rfl | rfl | rfl | rfl | rfl
  · refine ⟨f_x, f_y, fun post hp => ent post (br_t (by decide) hp), fun post hp => ?_⟩
    exact br_f (by decide) (br_f (by decide) (br_f (by decide) (br_f (by decide) (br_f (by decide) (br_f (by decide) (br_f (by decide) (br_f (by decide) hp)))))))
  · refine ⟨f_x + a_with (12 + b), f_y, fun post hp => ent post (br_f (by decide) (br_f (by decide) (br_t rfl (nm_e hp)))), fun post hp => ?_⟩
    exact br_t rfl (nm_e (br_f (by decide) (br_f (by decide) (br_f (by decide) (br_f (by decide) (br_f (by decide) (br_f (by decide) (br_f (by decide) hp))))))))
  · refine ⟨f_x, f_y + a_with (12 + b), fun post hp => ent post (br_f (by decide) (br_f (by decide) (br_f (by decide) (br_t rfl (nm_e hp))))), fun post hp => ?_⟩
    exact br_f (by decide) (br_t rfl (nm_e (br_f (by decide) (br_f (by decide) (br_f (by decide) (br_f (by decide) (br_f (by decide) (br_f (by decide) hp))))))))
  · refine ⟨f_y, f_y, fun post hp => ent post (br_f (by decide) (br_f (by decide) (br_f (by decide) (br_f (by decide) (br_t rfl hp))))), fun post hp => ?_⟩
    exact br_f (by decide) (br_f (by decide) (br_t rfl (br_f (by decide) (br_f (by decide) (br_f (by decide) (br_f (by decide) hp))))))
  · refine ⟨f_x, f_y - f_x, fun post hp => ent post (br_f (by decide) (br_f (by decide) (br_f (by decide) (br_f (by decide) (br_f (by decide) (br_t rfl (nm_e hp))))))), fun post hp => ?_⟩
    exact br_f (by decide) (br_f (by decide) (br_f (by decide) (br_f (by decide) (br_t rfl (nm_e (br_f (by decide) (br_f (by decide) (br_f (by decide) hp))))))))
  · refine ⟨a_with (12 + b), f_y, fun post hp => ent post (br_f (by decide) (br_f (by decide) (br_f (by decide) (br_f (by decide) (br_f (by decide) (br_f (by decide) (br_t rfl hp))))))), fun post hp => ?_⟩
    exact br_f (by decide) (br_f (by decide) (br_f (by decide) (br_f (by decide) (br_f (by decide) (br_t rfl (br_f (by decide) (br_f (by decide) hp)))))))
  · refine ⟨f_y, f_x, fun post hp => ent post (br_f (by decide) (br_f (by decide) (br_f (by decide) (br_f (by decide) (br_f (by decide) (br_f (by decide) (br_f (by decide) (br_t rfl hp)))))))), fun post hp => ?_⟩
    exact br_f (by decide) (br_f (by decide) (br_f (by decide) (br_t rfl (br_f (by decide) (br_f (by decide) (br_t rfl (br_f (by decide) hp)))))))
  · refine ⟨f_x, f_y * a_with (12 + b), fun post hp => ent post (br_f (by decide) (br_f (by decide) (br_f (by decide) (br_f (by decide) (br_f (by decide) (br_f (by decide) (br_f (by decide) (br_f (by decide) (br_t rfl (nm_e hp)))))))))), fun post hp => ?_⟩
    exact br_f (by decide) (br_f (by decide) (br_f (by decide) (br_f (by decide) (br_f (by decide) (br_f (by decide) (br_f (by decide) (br_t rfl (nm_e hp))))))))
theorem cu_choice {b k : Nat} (hb : b < 12) (hk : k ≤ 5) (hki : a_kind (12 + b) = nI k) :
    ∃ j : Nat, j < cg_ex k ∧ (∀ post : Int32 → Prop, post (nI j) → wpX_choice post (f_drafted, f_blocks, f_edges, f_probed, f_paths, f_fresh, f_x, f_y, f_steps, a_op, a_with, a_kind, a_target, a_from, a_to, a_exit, a_weights, a_inTree, a_back, a_first, a_probes, a_joined, a_order, a_ahead, a_met, a_way, a_ways, a_adds, a_begins, a_hits, a_cuts, a_gone, a_runs, a_version, a_counts, a_known) (nI b)) ∧ (∀ post : Int32 → Prop, post (nI j) → wpY_choose post (nI k) f_x f_y) := by
  have hin : vp_in (12 + nI b) 24 := pk_in (12 + b) 24 (by omega) (hx := nI_add 12 b)
  have rk : a_kind (12 + nI b).toNatClampNeg = nI k := cd_rd (nI_add 12 b) (by omega) hki
  have hk6 : k = 0 ∨ k = 1 ∨ k = 2 ∨ k = 3 ∨ k = 4 ∨ k = 5 := by omega
  rcases hk6 with rfl | rfl | rfl | rfl | rfl | rfl
  · exact ⟨0, by decide, fun post hp => And.intro hin (nm_r rk (br_t (by decide) hp)), fun post hp => br_t (by decide) hp⟩
  · exact ⟨0, by decide, fun post hp => And.intro hin (nm_r rk (br_t (by decide) hp)), fun post hp => br_t (by decide) hp⟩
  · by_cases h : f_y ≤ f_x
    · exact ⟨1, by decide, fun post hp => And.intro hin (nm_r rk (br_f (by decide) (br_f (by decide) (br_t rfl (br_t h hp))))), fun post hp => br_f (by decide) (br_f (by decide) (br_t rfl (br_t h hp)))⟩
    · exact ⟨0, by decide, fun post hp => And.intro hin (nm_r rk (br_f (by decide) (br_f (by decide) (br_t rfl (br_f h hp))))), fun post hp => br_f (by decide) (br_f (by decide) (br_t rfl (br_f h hp)))⟩
  · have ho := cu_odd f_x
    by_cases h : (f_x - f_x / 2 * 2) = 0
    · exact ⟨1, by decide, fun post hp => And.intro hin (nm_r rk (br_f (by decide) (br_f (by decide) (br_f (by decide) (br_t rfl (br_f (fun hh => ho.mp hh h) hp)))))), fun post hp => br_f (by decide) (br_f (by decide) (br_f (by decide) (br_t rfl ⟨by decide, br_t h hp⟩)))⟩
    · exact ⟨0, by decide, fun post hp => And.intro hin (nm_r rk (br_f (by decide) (br_f (by decide) (br_f (by decide) (br_t rfl (br_t (ho.mpr h) hp)))))), fun post hp => br_f (by decide) (br_f (by decide) (br_f (by decide) (br_t rfl ⟨by decide, br_f h hp⟩)))⟩
  · by_cases h : f_x = 0
    · exact ⟨0, by decide, fun post hp => And.intro hin (nm_r rk (br_f (by decide) (br_f (by decide) (br_f (by decide) (br_f (by decide) (br_t rfl (br_t h hp))))))), fun post hp => br_f (by decide) (br_f (by decide) (br_f (by decide) (br_f (by decide) (br_t rfl (br_t h hp)))))⟩
    · exact ⟨1, by decide, fun post hp => And.intro hin (nm_r rk (br_f (by decide) (br_f (by decide) (br_f (by decide) (br_f (by decide) (br_t rfl (br_f h hp))))))), fun post hp => br_f (by decide) (br_f (by decide) (br_f (by decide) (br_f (by decide) (br_t rfl (br_f h hp)))))⟩
  · obtain ⟨j, j1, j2, j3⟩ := cu_three f_x
    refine ⟨j, j1, fun post hp => And.intro hin (nm_r rk (br_f (by decide) (br_f (by decide) (br_f (by decide) (br_f (by decide) (br_f (by decide) (br_t rfl ⟨by decide, nm_e ?_⟩))))))), fun post hp => br_f (by decide) (br_f (by decide) (br_f (by decide) (br_f (by decide) (br_f (by decide) (br_t rfl ⟨by decide, by decide, by rw [j3]; exact hp⟩)))))⟩
    rcases j2 with ⟨q1, q2⟩ | ⟨q1, q2⟩
    · exact br_t q1 (by rw [q2]; exact hp)
    · exact br_f q1 (by rw [q2]; exact hp)
end
end
section
/-! run: the reference finds the path among its rows -/
theorem cp_LBe {nb : Nat} {ki fs F T m bk rk : Nat → Nat} (G : cg_GR nb ki fs F T) (D : cg_DF nb ki fs T m bk rk) : ∀ b, b < nb → m b = 2 → ∀ p, p ∈ cp_LB ki fs T bk b → ∀ x, x ∈ p → x < fs nb := by
  refine cp_ind D _ (fun b hb hm ih => ?_)
  intro p hp x hx
  rw [cp_eq G D hb hm] at hp
  obtain ⟨j, hj, h⟩ := cp_flm.mp hp
  have hlt := cg_lt G hb hj
  by_cases e1 : bk (fs b + j) = 1
  · rw [cp_LEe (Or.inl e1), List.mem_singleton] at h; subst h
    rw [List.mem_singleton] at hx; omega
  · by_cases e2 : T (fs b + j) = 12
    · rw [cp_LEe (Or.inr e2), List.mem_singleton] at h; subst h
      rw [List.mem_singleton] at hx; omega
    · rw [cp_LEn e1 e2] at h
      obtain ⟨q, hq, r⟩ := List.mem_map.mp h
      rw [← r] at hx
      rcases List.mem_cons.mp hx with h' | h'
      · omega
      · exact ih j hj e1 e2 q hq x h'
theorem cp_LLe {nb : Nat} {ki fs F T m bk rk : Nat → Nat} (G : cg_GR nb ki fs F T) (D : cg_DF nb ki fs T m bk rk) {n : Nat} {p : List Nat} (h : p ∈ cp_LL nb ki fs T bk n) {x : Nat} (hx : x ∈ p) : x < fs nb := by
  obtain ⟨b, hb, hp⟩ := cp_flm.mp h
  unfold cp_B at hp
  by_cases hs : cp_s T bk (fs nb + 1) b = 1
  · rw [if_pos hs] at hp
    obtain ⟨h1, h2⟩ := cp_sm G D hs
    exact cp_LBe G D b h1 h2 p hp x hx
  · rw [if_neg hs] at hp; cases hp
/-- row q is the way gone -/
def cu_M (n : Nat) (row len way : Nat → Int32) (q : Nat) : Prop := len q = nI n ∧ ∀ i, i < n → row (12 * q + i) = way i
theorem cu_Mq {nb : Nat} {ki fs F T m bk rk : Nat → Nat} (G : cg_GR nb ki fs F T) (D : cg_DF nb ki fs T m bk rk) {row len way : Nat → Int32} {pi : List Nat} {q0 : Nat} (R : cr_RW (cp_LL nb ki fs T bk nb) (cp_LL nb ki fs T bk nb).length row len) (hq0 : (cp_LL nb ki fs T bk nb)[q0]? = some pi) (W : cy_wy way pi) :
    ∀ q, q < (cp_LL nb ki fs T bk nb).length → (cu_M pi.length row len way q ↔ q = q0) := by
  intro q hq
  have hne := cg_ne G
  have hm0 := List.mem_of_getElem? hq0
  have hl0 := cp_LLl G D hm0
  obtain ⟨rho, r1, r2, r3, r4⟩ := R q hq
  have hm1 := List.mem_of_getElem? r1
  constructor
  · rintro ⟨h1, h2⟩
    rw [r3] at h1
    have hlen : rho.length = pi.length := cd_im h1 (by omega) (by omega)
    have heq : rho = pi := by
      refine List.ext_getElem? (fun i => ?_)
      by_cases hi : i < pi.length
      · have e1 : rho[i]? = some rho[i] := List.getElem?_eq_getElem (by omega)
        have e2 : pi[i]? = some pi[i] := List.getElem?_eq_getElem hi
        have e3 := h2 i hi
        rw [r4 i _ e1, W i _ e2] at e3
        have b1 := cp_LLe G D hm1 (List.getElem_mem (show i < rho.length by omega))
        have b2 := cp_LLe G D hm0 (List.getElem_mem hi)
        rw [e1, e2, cd_im e3 (by omega) (by omega)]
      · rw [List.getElem?_eq_none (by omega), List.getElem?_eq_none (by omega)]
    subst heq
    have hnd := cp_LLn G D nb
    have hq0' := (List.getElem?_eq_some_iff.mp hq0).1
    rcases Nat.lt_trichotomy q q0 with h | h | h
    · have := (List.pairwise_iff_getElem.mp hnd) q q0 hq hq0' h
      rw [List.getElem?_eq_getElem hq] at r1
      rw [List.getElem?_eq_getElem hq0'] at hq0
      exact absurd ((Option.some.inj r1).trans (Option.some.inj hq0).symm) this
    · exact h
    · have := (List.pairwise_iff_getElem.mp hnd) q0 q hq0' hq h
      rw [List.getElem?_eq_getElem hq] at r1
      rw [List.getElem?_eq_getElem hq0'] at hq0
      exact absurd ((Option.some.inj hq0).trans (Option.some.inj r1).symm) this
  · intro h
    subst h
    rw [hq0] at r1
    have e := Option.some.inj r1
    subst e
    refine ⟨r3, fun i hi => ?_⟩
    have e2 : pi[i]? = some pi[i] := List.getElem?_eq_getElem hi
    rw [r4 i _ e2, W i _ e2]
section
variable {g_made g_blocks g_edges g_paths g_many g_lastX g_lastY g_lastBlocks : Int32} {b_op b_number b_kind b_target b_from b_to b_exit b_weight b_firstEdge b_tree b_back b_row b_length b_gone b_done b_went b_cut b_kept b_mark b_way b_tried b_stack : Nat → Int32}
theorem cu_29 {n p : Nat} (hn : n ≤ 12) (hp : p < 300) : ∀ r i s, i + r = n → s ≤ 1 → (s = 1 ↔ b_length p = nI n ∧ ∀ j, j < i → b_row (12 * p + j) = b_way j) →
    ∃ s', s' ≤ 1 ∧ (s' = 1 ↔ cu_M n b_row b_length b_way p) ∧ ∀ post J, wY_countPath_73 post J (nI n) (nI p) (nI s') g_made g_blocks g_edges g_paths g_many g_lastX g_lastY g_lastBlocks b_op b_number b_kind b_target b_from b_to b_exit b_weight b_firstEdge b_tree b_back b_row b_length b_gone b_done b_went b_cut b_kept b_mark b_way b_tried b_stack → wY_countPath_29 post J (nI n) (nI p) g_made g_blocks g_edges g_paths g_many g_lastX g_lastY g_lastBlocks b_op b_number b_kind b_target b_from b_to b_exit b_weight b_firstEdge b_tree b_back b_row b_length b_gone b_done b_went b_cut b_kept b_mark b_way b_tried b_stack (r + 1) (nI s) (nI i) := by
  intro r
  induction r with
  | zero =>
    intro i s hi hs hI
    have e1 : i = n := by omega
    subst e1
    exact ⟨s, hs, hI, fun post J h => br_t (nI_le (Nat.le_refl _) (by omega)) h⟩
  | succ r ih =>
    intro i s hi hs hI
    have g1 : ¬ nI n ≤ nI i := nI_ge (by omega) (by omega)
    have hs01 : s = 0 ∨ s = 1 := by omega
    rcases hs01 with rfl | rfl
    · refine ⟨0, by omega, ⟨fun h => by omega, fun h => ?_⟩, fun post J h => br_f g1 (br_t rfl h)⟩
      exact absurd (hI.mpr ⟨h.1, fun j hj => h.2 j (by omega)⟩) (by omega)
    · obtain ⟨i1, i2⟩ := hI.mp rfl
      have hv1 : vp_in (12 * nI p + nI i) 3600 := pk_in (12 * p + i) 3600 (by omega) (hx := cw_ix 12 p i)
      have hv2 : vp_in (nI i) 13 := vp_in_nI (by omega) (by omega)
      have rr : b_row (12 * nI p + nI i).toNatClampNeg = b_row (12 * p + i) := cd_rd (cw_ix 12 p i) (by omega) rfl
      have rw' : b_way (nI i).toNatClampNeg = b_way i := cd_rd rfl (by omega) rfl
      by_cases hc : b_row (12 * p + i) = b_way i
      · obtain ⟨s', q1, q2, q3⟩ := ih (i + 1) 1 (by omega) (by omega) ⟨fun _ => ⟨i1, fun j hj => by
          by_cases ej : j = i
          · subst ej; exact hc
          · exact i2 j (by omega)⟩, fun _ => rfl⟩
        exact ⟨s', q1, q2, fun post J h => br_f g1 (br_f (by decide) ⟨hv1, hv2, br_t (by rw [rr, rw']; exact hc) (nm_r (nI_1 i) (q3 post J h))⟩)⟩
      · obtain ⟨s', q1, q2, q3⟩ := ih (i + 1) 0 (by omega) (by omega) ⟨fun h => by omega, fun h => absurd (h.2 i (by omega)) hc⟩
        exact ⟨s', q1, q2, fun post J h => br_f g1 (br_f (by decide) ⟨hv1, hv2, br_f (by rw [rr, rw']; exact hc) (nm_r (nI_1 i) (q3 post J h))⟩)⟩
theorem cu_cp {n P : Nat} (hn : n ≤ 12) (hP : P ≤ 300) (hg : g_paths = nI P) : ∀ r p b_went, p + r = P →
    ∃ w : Nat → Int32, (∀ q, q < p ∨ P ≤ q → w q = b_went q) ∧ (∀ q, p ≤ q → q < P → (cu_M n b_row b_length b_way q → w q = b_went q + 1) ∧ (¬ cu_M n b_row b_length b_way q → w q = b_went q)) ∧
      ∀ post : SY → Prop, post (g_made, g_blocks, g_edges, g_paths, g_many, g_lastX, g_lastY, g_lastBlocks, b_op, b_number, b_kind, b_target, b_from, b_to, b_exit, b_weight, b_firstEdge, b_tree, b_back, b_row, b_length, b_gone, b_done, w, b_cut, b_kept, b_mark, b_way, b_tried, b_stack) → wY_countPath_2 post (nI n) g_made g_blocks g_edges g_paths g_many g_lastX g_lastY g_lastBlocks (r + 1) (nI p) b_op b_number b_kind b_target b_from b_to b_exit b_weight b_firstEdge b_tree b_back b_row b_length b_gone b_done b_went b_cut b_kept b_mark b_way b_tried b_stack := by
  intro r
  induction r with
  | zero =>
    intro p b_went hp
    exact ⟨b_went, fun _ _ => rfl, fun q h1 h2 => by omega, fun post h => br_t (by rw [hg]; exact nI_le (by omega) (by omega)) h⟩
  | succ r ih =>
    intro p b_went hp
    have g1 : ¬ g_paths ≤ nI p := by rw [hg]; exact nI_ge (by omega) (by omega)
    have hv : vp_in (nI p) 300 := vp_in_nI (by omega) (by omega)
    have hv9 : vp_in (nI p) 900 := vp_in_nI (by omega) (by omega)
    have rl : b_length (nI p).toNatClampNeg = b_length p := cd_rd rfl (by omega) rfl
    have inner : ∃ s', s' ≤ 1 ∧ (s' = 1 ↔ cu_M n b_row b_length b_way p) ∧ ∀ post J, wY_countPath_73 post J (nI n) (nI p) (nI s') g_made g_blocks g_edges g_paths g_many g_lastX g_lastY g_lastBlocks b_op b_number b_kind b_target b_from b_to b_exit b_weight b_firstEdge b_tree b_back b_row b_length b_gone b_done b_went b_cut b_kept b_mark b_way b_tried b_stack → ((b_length (nI p).toNatClampNeg = nI n → (∃ n29 : Nat, wY_countPath_29 post J (nI n) (nI p) g_made g_blocks g_edges g_paths g_many g_lastX g_lastY g_lastBlocks b_op b_number b_kind b_target b_from b_to b_exit b_weight b_firstEdge b_tree b_back b_row b_length b_gone b_done b_went b_cut b_kept b_mark b_way b_tried b_stack n29 1 0)) ∧ (¬ b_length (nI p).toNatClampNeg = nI n → (∃ n29 : Nat, wY_countPath_29 post J (nI n) (nI p) g_made g_blocks g_edges g_paths g_many g_lastX g_lastY g_lastBlocks b_op b_number b_kind b_target b_from b_to b_exit b_weight b_firstEdge b_tree b_back b_row b_length b_gone b_done b_went b_cut b_kept b_mark b_way b_tried b_stack n29 0 0))) := by
      by_cases hl : b_length p = nI n
      · obtain ⟨s', q1, q2, q3⟩ := cu_29 (g_made := g_made) (g_blocks := g_blocks) (g_edges := g_edges) (g_paths := g_paths) (g_many := g_many) (g_lastX := g_lastX) (g_lastY := g_lastY) (g_lastBlocks := g_lastBlocks) (b_op := b_op) (b_number := b_number) (b_kind := b_kind) (b_target := b_target) (b_from := b_from) (b_to := b_to) (b_exit := b_exit) (b_weight := b_weight) (b_firstEdge := b_firstEdge) (b_tree := b_tree) (b_back := b_back) (b_row := b_row) (b_length := b_length) (b_gone := b_gone) (b_done := b_done) (b_went := b_went) (b_cut := b_cut) (b_kept := b_kept) (b_mark := b_mark) (b_way := b_way) (b_tried := b_tried) (b_stack := b_stack) (n := n) (p := p) hn (by omega) n 0 1 (by omega) (by omega) ⟨fun _ => ⟨hl, fun j hj => by omega⟩, fun _ => rfl⟩
        exact ⟨s', q1, q2, fun post J h => br_t (by rw [rl]; exact hl) ⟨_, q3 post J h⟩⟩
      · obtain ⟨s', q1, q2, q3⟩ := cu_29 (g_made := g_made) (g_blocks := g_blocks) (g_edges := g_edges) (g_paths := g_paths) (g_many := g_many) (g_lastX := g_lastX) (g_lastY := g_lastY) (g_lastBlocks := g_lastBlocks) (b_op := b_op) (b_number := b_number) (b_kind := b_kind) (b_target := b_target) (b_from := b_from) (b_to := b_to) (b_exit := b_exit) (b_weight := b_weight) (b_firstEdge := b_firstEdge) (b_tree := b_tree) (b_back := b_back) (b_row := b_row) (b_length := b_length) (b_gone := b_gone) (b_done := b_done) (b_went := b_went) (b_cut := b_cut) (b_kept := b_kept) (b_mark := b_mark) (b_way := b_way) (b_tried := b_tried) (b_stack := b_stack) (n := n) (p := p) hn (by omega) n 0 0 (by omega) (by omega) ⟨fun h => by omega, fun h => absurd h.1 hl⟩
        exact ⟨s', q1, q2, fun post J h => br_f (by rw [rl]; exact hl) ⟨_, q3 post J h⟩⟩
    obtain ⟨s', s1, s2, s3⟩ := inner
    have hs01 : s' = 0 ∨ s' = 1 := by omega
    rcases hs01 with rfl | rfl
    · have hM : ¬ cu_M n b_row b_length b_way p := fun h => absurd (s2.mpr h) (by omega)
      obtain ⟨w, q1, q2, q3⟩ := ih (p + 1) b_went (by omega)
      refine ⟨w, fun q hq => q1 q (by omega), fun q h1 h2 => ?_, fun post h => br_f g1 ⟨hv, s3 post _ (br_t rfl (nm_r (nI_1 p) (q3 post h)))⟩⟩
      by_cases e : q = p
      · subst e; exact ⟨fun h => absurd h hM, fun _ => q1 q (by omega)⟩
      · exact q2 q (by omega) h2
    · have hM : cu_M n b_row b_length b_way p := s2.mp rfl
      obtain ⟨w, q1, q2, q3⟩ := ih (p + 1) (upd b_went p (b_went p + 1)) (by omega)
      refine ⟨w, fun q hq => by rw [q1 q (by omega), pk_un (by omega)], fun q h1 h2 => ?_, fun post h => br_f g1 ⟨hv, s3 post _ (br_f (by decide) ⟨hv9, hv9, nm_r (cd_up rfl (by omega) (by rw [nI_clamp (by omega)])) (nm_r (nI_1 p) (q3 post h))⟩)⟩⟩
      by_cases e : q = p
      · subst e; exact ⟨fun _ => by rw [q1 q (by omega), pk_us], fun h => absurd hM h⟩
      · have := q2 q (by omega) h2
        rw [pk_un e] at this; exact this
end
end
section
/-! run: the counters, step by step -/
/-- the counters while a run stands at place b -/
def cu_I (nb : Nat) (ki fs F T bk tr : Nat → Nat) (b : Nat) (h c w : Nat → Int32) (r : Int32) (g d y : Nat → Int32) (k : Int32) : Prop :=
  (∀ e, e < fs nb + 1 → tr e = 0 → h e = g e) ∧
  (∀ p, p < nb ∨ p = 12 → cf_bal nb (fs nb + 1) F T c g p = cf_dl b p - cf_dl 12 p) ∧
  (∀ b, b < nb → d b = c b + cf_in (fs nb + 1) F g b) ∧
  k = cs_i nb c ∧
  (∃ n : Nat, n ≤ 1000000 ∧ r = nI n ∧ g (fs nb) = nI n) ∧
  ((cp_LL nb ki fs T bk nb).length ≤ 300 → ∀ p, p < (cp_LL nb ki fs T bk nb).length → w p = y p)
theorem cu_fin {nb : Nat} {ki fs F T bk tr : Nat → Nat} {h c w : Nat → Int32} {r : Int32} {g d y : Nat → Int32} {k : Int32} (I : cu_I nb ki fs F T bk tr 12 h c w r g d y k) : cf_CS nb ki fs F T bk tr h c w r g d y k := by
  obtain ⟨a1, a2, a3, a4, a5, a6⟩ := I
  exact ⟨a1, fun p hp => by rw [a2 p hp]; exact Int32.sub_self _, a3, a4, a5, a6⟩
theorem cu_start {nb : Nat} {ki fs F T bk tr : Nat → Nat} {h c w : Nat → Int32} {r : Int32} {g d y : Nat → Int32} {k : Int32} (G : cg_GR nb ki fs F T) (ht : tr (fs nb) = 1) (A : cf_CS nb ki fs F T bk tr h c w r g d y k) (hr : r ≠ 1000000) :
    cu_I nb ki fs F T bk tr 0 h c w (r + 1) (upd g (fs nb) (g (fs nb) + 1)) d y k := by
  obtain ⟨a1, a2, a3, a4, ⟨n, n1, n2, n3⟩, a6⟩ := A
  have hnb := G.2.1
  have hF := G.2.2.2.2.2.1
  have hT := G.2.2.2.2.2.2
  refine ⟨fun e he h0 => ?_, fun p hp => ?_, fun b hb => ?_, a4, ⟨n + 1, ?_, ?_, ?_⟩, a6⟩
  · have : e ≠ fs nb := by intro e1; subst e1; omega
    rw [pk_un this]; exact a1 e he h0
  · have h2 := a2 p hp
    unfold cf_bal at *
    rw [cf_inu (by omega), cf_inu (by omega), hF, hT]
    grind
  · rw [cf_inu (by omega), hF, a3 b hb]
    unfold cf_dl
    rw [if_neg (by omega), Int32.add_zero]
  · have : n ≠ 1000000 := by intro e1; subst e1; exact hr n2
    omega
  · rw [n2, nI_1]
  · rw [pk_us, n3, nI_1]
theorem cu_mv {nb b e : Nat} {ki fs F T bk tr : Nat → Nat} {h c w : Nat → Int32} {r : Int32} {g d y : Nat → Int32} {k : Int32} (he : e < fs nb) (hF : F e = b) (hb : b < nb) (I : cu_I nb ki fs F T bk tr b h c w r g d y k) :
    cu_I nb ki fs F T bk tr (T e) (if tr e = 0 then upd h e (h e + 1) else h) c w r (upd g e (g e + 1)) (upd d b (d b + 1)) y k := by
  obtain ⟨a1, a2, a3, a4, a5, a6⟩ := I
  refine ⟨fun x hx h0 => ?_, fun p hp => ?_, fun x hx => ?_, a4, ?_, a6⟩
  · by_cases ex : x = e
    · subst ex; rw [if_pos h0, pk_us, pk_us, a1 x hx h0]
    · rw [pk_un ex]
      split
      · rw [pk_un ex]; exact a1 x hx h0
      · exact a1 x hx h0
  · have h2 := a2 p hp
    unfold cf_bal at *
    rw [cf_inu (by omega), cf_inu (by omega), hF]
    grind
  · rw [cf_inu (by omega), hF]
    by_cases ex : x = b
    · subst ex; rw [pk_us, a3 x hx]
      unfold cf_dl; rw [if_pos rfl]; ac_rfl
    · rw [pk_un ex, a3 x hx]
      unfold cf_dl; rw [if_neg ex, Int32.add_zero]
  · rw [pk_un (show fs nb ≠ e by omega)]; exact a5
theorem cu_ct {nb b : Nat} {ki fs F T bk tr : Nat → Nat} {h c w : Nat → Int32} {r : Int32} {g d y : Nat → Int32} {k : Int32} (hnb : nb ≤ 12) (hb : b < nb) (I : cu_I nb ki fs F T bk tr b h c w r g d y k) :
    cf_CS nb ki fs F T bk tr h (upd c b (c b + 1)) w r g (upd d b (d b + 1)) y (k + 1) := by
  obtain ⟨a1, a2, a3, a4, a5, a6⟩ := I
  refine ⟨a1, fun p hp => ?_, fun x hx => ?_, ?_, a5, a6⟩
  · have h2 := a2 p hp
    unfold cf_bal at *
    rw [cf_cu hb hnb]
    grind
  · by_cases ex : x = b
    · subst ex; rw [pk_us, pk_us, a3 x hx]; ac_rfl
    · rw [pk_un ex, pk_un ex]; exact a3 x hx
  · rw [a4]; exact (cs_ip (k := b) hb (fun i _ hi => pk_un hi) pk_us).symm
section
variable {f_drafted f_blocks f_edges f_probed f_paths f_fresh f_x f_y f_steps : Int32} {a_op a_with a_kind a_target a_from a_to a_exit a_weights a_inTree a_back a_first a_probes a_joined a_order a_ahead a_met a_way a_ways a_adds a_begins a_hits a_cuts a_gone a_runs a_version a_counts a_known : Nat → Int32} {post : Int32 → SX → Prop} {n b st : Nat} {x4 x5 x y : Int32}
theorem cu_xcut (hb : b < 12) (hst : f_steps = nI 99) (hW : ∀ post : SX → Prop, post (f_drafted, f_blocks, f_edges, f_probed, f_paths, f_fresh, x, y, f_steps, a_op, a_with, a_kind, a_target, a_from, a_to, a_exit, a_weights, a_inTree, a_back, a_first, a_probes, a_joined, a_order, a_ahead, a_met, a_way, a_ways, a_adds, a_begins, a_hits, a_cuts, a_gone, a_runs, a_version, a_counts, a_known) → wpX_work post (f_drafted, f_blocks, f_edges, f_probed, f_paths, f_fresh, f_x, f_y, f_steps, a_op, a_with, a_kind, a_target, a_from, a_to, a_exit, a_weights, a_inTree, a_back, a_first, a_probes, a_joined, a_order, a_ahead, a_met, a_way, a_ways, a_adds, a_begins, a_hits, a_cuts, a_gone, a_runs, a_version, a_counts, a_known) (nI b))
    (h : post 1 (f_drafted, f_blocks, f_edges, f_probed, f_paths, f_fresh, x, y, nI 100, a_op, a_with, a_kind, a_target, a_from, a_to, a_exit, a_weights, a_inTree, a_back, a_first, a_probes, a_joined, a_order, a_ahead, a_met, a_way, a_ways, a_adds, a_begins, a_hits, upd a_cuts b (a_cuts b + 1), a_gone, a_runs, a_version, a_counts, a_known)) : wX_run_72 post x5 (n + 1) (nI b) x4 f_drafted f_blocks f_edges f_probed f_paths f_fresh f_x f_y f_steps a_op a_with a_kind a_target a_from a_to a_exit a_weights a_inTree a_back a_first a_probes a_joined a_order a_ahead a_met a_way a_ways a_adds a_begins a_hits a_cuts a_gone a_runs a_version a_counts a_known := by
  subst hst
  refine br_f (nI_ge (b := 12) hb (by omega)) (hW _ (nm_r (nI_1 99) (br_t (nI_1 99) ⟨vp_in_nI (by omega) (by omega), vp_in_nI (by omega) (by omega), nm_r (cd_up rfl (by omega) (by rw [nI_clamp (by omega)])) h⟩)))
theorem cu_xmv {j s e : Nat} {tr : Nat → Nat} (hb : b < 12) (hs : st < 99) (hst : f_steps = nI st) (hW : ∀ post : SX → Prop, post (f_drafted, f_blocks, f_edges, f_probed, f_paths, f_fresh, x, y, f_steps, a_op, a_with, a_kind, a_target, a_from, a_to, a_exit, a_weights, a_inTree, a_back, a_first, a_probes, a_joined, a_order, a_ahead, a_met, a_way, a_ways, a_adds, a_begins, a_hits, a_cuts, a_gone, a_runs, a_version, a_counts, a_known) → wpX_work post (f_drafted, f_blocks, f_edges, f_probed, f_paths, f_fresh, f_x, f_y, f_steps, a_op, a_with, a_kind, a_target, a_from, a_to, a_exit, a_weights, a_inTree, a_back, a_first, a_probes, a_joined, a_order, a_ahead, a_met, a_way, a_ways, a_adds, a_begins, a_hits, a_cuts, a_gone, a_runs, a_version, a_counts, a_known) (nI b)) (hC : ∀ post : Int32 → Prop, post (nI j) → wpX_choice post (f_drafted, f_blocks, f_edges, f_probed, f_paths, f_fresh, x, y, nI (st + 1), a_op, a_with, a_kind, a_target, a_from, a_to, a_exit, a_weights, a_inTree, a_back, a_first, a_probes, a_joined, a_order, a_ahead, a_met, a_way, a_ways, a_adds, a_begins, a_hits, a_cuts, a_gone, a_runs, a_version, a_counts, a_known) (nI b))
    (hf : a_first b = nI s) (he : s + j = e) (he' : e < 37) (ht : a_inTree e = nI (tr e)) (ht1 : tr e ≤ 1)
    (h : wX_run_146 post (wX_run_72 post x5 n) x4 x5 (nI e) f_drafted f_blocks f_edges f_probed f_paths f_fresh x y (nI (st + 1)) a_op a_with a_kind a_target a_from a_to a_exit a_weights a_inTree a_back a_first a_probes a_joined a_order a_ahead a_met a_way a_ways a_adds a_begins ((if tr e = 0 then upd a_hits e (a_hits e + 1) else a_hits)) a_cuts a_gone a_runs a_version a_counts a_known) : wX_run_72 post x5 (n + 1) (nI b) x4 f_drafted f_blocks f_edges f_probed f_paths f_fresh f_x f_y f_steps a_op a_with a_kind a_target a_from a_to a_exit a_weights a_inTree a_back a_first a_probes a_joined a_order a_ahead a_met a_way a_ways a_adds a_begins a_hits a_cuts a_gone a_runs a_version a_counts a_known := by
  subst hst
  refine br_f (nI_ge (b := 12) hb (by omega)) (hW _ (nm_r (nI_1 st) (br_f (by rw [nI_1]; exact fun hh => absurd (cd_im (b := 100) hh (by omega) (by omega)) (by omega)) ⟨vp_in_nI (by omega) (by omega), hC _ (nm_r (e' := nI e) (by rw [cd_rd rfl (by omega) hf, nI_add, he]) ⟨vp_in_nI he' (by omega), ?_⟩)⟩)))
  by_cases h0 : tr e = 0
  · rw [if_pos h0] at h
    exact br_t (by rw [cd_rd rfl (by omega) ht, h0]; rfl) ⟨vp_in_nI (by omega) (by omega), vp_in_nI (by omega) (by omega), nm_r (cd_up rfl (by omega) (by rw [nI_clamp (by omega)])) h⟩
  · rw [if_neg h0] at h
    exact br_f (by rw [cd_rd rfl (by omega) ht]; exact nI_ne0 (by omega) (by omega)) h
theorem cu_xon {e t : Nat} (he : e < 37) (ht : a_to e = nI t) (ht' : t < 12) (hbk : a_back e = nI 0) (h : wX_run_72 post x5 n (nI t) (x4 + a_adds e) f_drafted f_blocks f_edges f_probed f_paths f_fresh f_x f_y f_steps a_op a_with a_kind a_target a_from a_to a_exit a_weights a_inTree a_back a_first a_probes a_joined a_order a_ahead a_met a_way a_ways a_adds a_begins a_hits a_cuts a_gone a_runs a_version a_counts a_known) : wX_run_146 post (wX_run_72 post x5 n) x4 x5 (nI e) f_drafted f_blocks f_edges f_probed f_paths f_fresh f_x f_y f_steps a_op a_with a_kind a_target a_from a_to a_exit a_weights a_inTree a_back a_first a_probes a_joined a_order a_ahead a_met a_way a_ways a_adds a_begins a_hits a_cuts a_gone a_runs a_version a_counts a_known :=
  And.intro (vp_in_nI he (by omega)) (nm_r (congrArg (x4 + ·) (cd_rd rfl (by omega) rfl)) ⟨vp_in_nI he (by omega), nm_r (cd_rd rfl (by omega) ht) ⟨vp_in_nI he (by omega), br_t (cd_rd rfl (by omega) hbk) (br_f (fun hh => absurd (cd_im (b := 12) hh (by omega) (by omega)) (by omega)) (br_t rfl (br_t rfl h)))⟩⟩)
theorem cu_xend {e t bk : Nat} {gn : Nat → Int32} (he : e < 37) (ht : a_to e = nI t) (ht' : t ≤ 12) (hbk : a_back e = nI bk) (hbk1 : bk ≤ 1) (hend : bk = 1 ∨ t = 12) (hg : (x5 = 0 ∧ gn = a_gone) ∨ (x5 = 1 ∧ ∃ q, q < 900 ∧ x4 + a_adds e = nI q ∧ gn = upd a_gone q (a_gone q + 1)))
    (h : wX_run_72 post x5 n (nI t) (if t = 12 then x4 + a_adds e else a_begins t) f_drafted f_blocks f_edges f_probed f_paths f_fresh f_x f_y f_steps a_op a_with a_kind a_target a_from a_to a_exit a_weights a_inTree a_back a_first a_probes a_joined a_order a_ahead a_met a_way a_ways a_adds a_begins a_hits a_cuts gn a_runs a_version a_counts a_known) : wX_run_146 post (wX_run_72 post x5 n) x4 x5 (nI e) f_drafted f_blocks f_edges f_probed f_paths f_fresh f_x f_y f_steps a_op a_with a_kind a_target a_from a_to a_exit a_weights a_inTree a_back a_first a_probes a_joined a_order a_ahead a_met a_way a_ways a_adds a_begins a_hits a_cuts a_gone a_runs a_version a_counts a_known := by
  have k210 : wX_run_210 post (wX_run_72 post x5 n) (nI t) (x4 + a_adds e) x5 1 f_drafted f_blocks f_edges f_probed f_paths f_fresh f_x f_y f_steps a_op a_with a_kind a_target a_from a_to a_exit a_weights a_inTree a_back a_first a_probes a_joined a_order a_ahead a_met a_way a_ways a_adds a_begins a_hits a_cuts gn a_runs a_version a_counts a_known := by
    by_cases h12 : t = 12
    · rw [if_pos h12] at h
      exact br_f (by decide) (br_t (by rw [h12]; decide) h)
    · rw [if_neg h12] at h
      exact br_f (by decide) (br_f (nI_ge (b := 12) (by omega) (by omega)) ⟨vp_in_nI (by omega) (by omega), nm_r (cd_rd rfl (by omega) rfl) h⟩)
  have k182 : wX_run_182 post (wX_run_72 post x5 n) (nI t) (x4 + a_adds e) x5 f_drafted f_blocks f_edges f_probed f_paths f_fresh f_x f_y f_steps a_op a_with a_kind a_target a_from a_to a_exit a_weights a_inTree a_back a_first a_probes a_joined a_order a_ahead a_met a_way a_ways a_adds a_begins a_hits a_cuts a_gone a_runs a_version a_counts a_known := by
    rcases hg with ⟨g1, g2⟩ | ⟨g1, q, q1, q2, q3⟩
    · subst g2
      exact br_f (by decide) (br_t g1 k210)
    · refine br_f (by decide) (br_f (by rw [g1]; decide) ?_)
      rw [q2] at k210 ⊢
      exact ⟨vp_in_nI q1 (by omega), vp_in_nI q1 (by omega), nm_r (by rw [nI_clamp (by omega)]; exact q3.symm) k210⟩
  refine And.intro (vp_in_nI he (by omega)) (nm_r (congrArg (x4 + ·) (cd_rd rfl (by omega) rfl)) ⟨vp_in_nI he (by omega), nm_r (cd_rd rfl (by omega) ht) ⟨vp_in_nI he (by omega), ?_⟩⟩)
  by_cases h0 : bk = 0
  · exact br_t (by rw [cd_rd rfl (by omega) hbk, h0]; rfl) (br_t (by rw [show t = 12 by omega]; rfl) k182)
  · exact br_f (by rw [cd_rd rfl (by omega) hbk]; exact nI_ne0 (by omega) (by omega)) k182
end
section
variable {g_made g_blocks g_edges g_paths g_many g_lastX g_lastY g_lastBlocks : Int32} {b_op b_number b_kind b_target b_from b_to b_exit b_weight b_firstEdge b_tree b_back b_row b_length b_gone b_done b_went b_cut b_kept b_mark b_way b_tried b_stack : Nat → Int32} {post : Int32 → SY → Prop} {n b st l : Nat} {x y : Int32}
theorem cu_ycut (hb : b < 12) (hs : st = 99) (hW : ∀ post : SY → Prop, post (g_made, g_blocks, g_edges, g_paths, g_many, x, y, g_lastBlocks, b_op, b_number, b_kind, b_target, b_from, b_to, b_exit, b_weight, b_firstEdge, b_tree, b_back, b_row, b_length, b_gone, b_done, b_went, b_cut, b_kept, b_mark, b_way, b_tried, b_stack) → wpY_work post (g_made, g_blocks, g_edges, g_paths, g_many, g_lastX, g_lastY, g_lastBlocks, b_op, b_number, b_kind, b_target, b_from, b_to, b_exit, b_weight, b_firstEdge, b_tree, b_back, b_row, b_length, b_gone, b_done, b_went, b_cut, b_kept, b_mark, b_way, b_tried, b_stack) (b_op (12 + nI b).toNatClampNeg) (b_number (12 + nI b).toNatClampNeg))
    (h : post 1 (g_made, g_blocks, g_edges, g_paths, g_many, x, y, nI 100, b_op, b_number, b_kind, b_target, b_from, b_to, b_exit, b_weight, b_firstEdge, b_tree, b_back, b_row, b_length, b_gone, upd b_done b (b_done b + 1), b_went, upd b_cut 0 (b_cut 0 + 1), b_kept, b_mark, b_way, b_tried, b_stack)) : wY_run_58 post (n + 1) (nI b) (nI l) (nI st) g_made g_blocks g_edges g_paths g_many g_lastX g_lastY g_lastBlocks b_op b_number b_kind b_target b_from b_to b_exit b_weight b_firstEdge b_tree b_back b_row b_length b_gone b_done b_went b_cut b_kept b_mark b_way b_tried b_stack := by
  subst hs
  have hin : vp_in (12 + nI b) 24 := pk_in (12 + b) 24 (by omega) (hx := nI_add 12 b)
  exact br_f (nI_pos (by omega)) ⟨hin, hin, hW _ ⟨vp_in_nI (by omega) (by omega), vp_in_nI (by omega) (by omega), nm_r (cd_up rfl (by omega) (by rw [nI_clamp (by omega)])) (nm_r (nI_1 99) (br_t rfl (nm_e h)))⟩⟩
theorem cu_ymv {j s e t bk : Nat} {w : Nat → Int32} (hb : b < 12) (hl : l < 12) (hs : st < 99) (hW : ∀ post : SY → Prop, post (g_made, g_blocks, g_edges, g_paths, g_many, x, y, g_lastBlocks, b_op, b_number, b_kind, b_target, b_from, b_to, b_exit, b_weight, b_firstEdge, b_tree, b_back, b_row, b_length, b_gone, b_done, b_went, b_cut, b_kept, b_mark, b_way, b_tried, b_stack) → wpY_work post (g_made, g_blocks, g_edges, g_paths, g_many, g_lastX, g_lastY, g_lastBlocks, b_op, b_number, b_kind, b_target, b_from, b_to, b_exit, b_weight, b_firstEdge, b_tree, b_back, b_row, b_length, b_gone, b_done, b_went, b_cut, b_kept, b_mark, b_way, b_tried, b_stack) (b_op (12 + nI b).toNatClampNeg) (b_number (12 + nI b).toNatClampNeg)) (hC : ∀ post : Int32 → Prop, post (nI j) → wpY_choose post (b_kind (12 + nI b).toNatClampNeg) x y)
    (hf : b_firstEdge b = nI s) (he : s + j = e) (he' : e < 37) (ht : b_to e = cd_cv t) (ht' : t ≤ 12) (hbk : b_back e = nI bk) (hbk1 : bk ≤ 1)
    (hon : bk = 0 → t < 12 → wY_run_58 post n (nI t) (nI (l + 1)) (nI (st + 1)) g_made g_blocks g_edges g_paths g_many x y (nI (st + 1)) b_op b_number b_kind b_target b_from b_to b_exit b_weight b_firstEdge b_tree b_back b_row b_length (upd b_gone e (b_gone e + 1)) (upd b_done b (b_done b + 1)) b_went b_cut b_kept b_mark (upd b_way l (nI e)) b_tried b_stack)
    (hcp : bk = 1 ∨ t = 12 → ∀ post : SY → Prop, post (g_made, g_blocks, g_edges, g_paths, g_many, x, y, nI (st + 1), b_op, b_number, b_kind, b_target, b_from, b_to, b_exit, b_weight, b_firstEdge, b_tree, b_back, b_row, b_length, upd b_gone e (b_gone e + 1), upd b_done b (b_done b + 1), w, b_cut, b_kept, b_mark, upd b_way l (nI e), b_tried, b_stack) → wpY_countPath post (g_made, g_blocks, g_edges, g_paths, g_many, x, y, nI (st + 1), b_op, b_number, b_kind, b_target, b_from, b_to, b_exit, b_weight, b_firstEdge, b_tree, b_back, b_row, b_length, upd b_gone e (b_gone e + 1), upd b_done b (b_done b + 1), b_went, b_cut, b_kept, b_mark, upd b_way l (nI e), b_tried, b_stack) (nI (l + 1)))
    (hend : bk = 1 ∨ t = 12 → wY_run_58 post n (cd_cv t) 0 (nI (st + 1)) g_made g_blocks g_edges g_paths g_many x y (nI (st + 1)) b_op b_number b_kind b_target b_from b_to b_exit b_weight b_firstEdge b_tree b_back b_row b_length (upd b_gone e (b_gone e + 1)) (upd b_done b (b_done b + 1)) w b_cut b_kept b_mark (upd b_way l (nI e)) b_tried b_stack) : wY_run_58 post (n + 1) (nI b) (nI l) (nI st) g_made g_blocks g_edges g_paths g_many g_lastX g_lastY g_lastBlocks b_op b_number b_kind b_target b_from b_to b_exit b_weight b_firstEdge b_tree b_back b_row b_length b_gone b_done b_went b_cut b_kept b_mark b_way b_tried b_stack := by
  have hin : vp_in (12 + nI b) 24 := pk_in (12 + b) 24 (by omega) (hx := nI_add 12 b)
  have hin37 : vp_in (nI e) 37 := vp_in_nI he' (by omega)
  have k194 : bk = 1 ∨ t = 12 → wY_run_194 post (wY_run_58 post n) (nI (l + 1)) (nI (st + 1)) (nI e) g_made g_blocks g_edges g_paths g_many x y (nI (st + 1)) b_op b_number b_kind b_target b_from b_to b_exit b_weight b_firstEdge b_tree b_back b_row b_length (upd b_gone e (b_gone e + 1)) (upd b_done b (b_done b + 1)) b_went b_cut b_kept b_mark (upd b_way l (nI e)) b_tried b_stack := fun hh =>
    hcp hh _ ⟨hin37, nm_r (cd_rd rfl (by omega) ht) (hend hh)⟩
  refine br_f (nI_pos (by omega)) ⟨hin, hin, hW _ ⟨vp_in_nI (by omega) (by omega), vp_in_nI (by omega) (by omega), nm_r (cd_up rfl (by omega) (by rw [nI_clamp (by omega)])) (nm_r (nI_1 st) (br_f (fun hh => absurd (cd_im (b := 100) hh (by omega) (by omega)) (by omega)) ⟨vp_in_nI (by omega) (by omega), hin, hC _ (nm_r (e' := nI e) (by rw [cd_rd rfl (by omega) hf, nI_add, he]) ⟨vp_in_nI (by omega) (by omega), vp_in_nI (by omega) (by omega), nm_r (cd_up rfl (by omega) (by rw [nI_clamp (by omega)])) ⟨vp_in_nI (by omega) (by omega), nm_r (cd_up rfl (by omega) rfl) (nm_r (nI_1 l) ⟨hin37, ?_⟩)⟩⟩)⟩))⟩⟩
  by_cases h0 : bk = 0
  · refine br_t (by rw [cd_rd rfl (by omega) hbk, h0]; rfl) ⟨hin37, ?_⟩
    by_cases h12 : t = 12
    · exact br_f (by rw [cd_rd rfl (by omega) ht, h12]; decide) (k194 (Or.inr h12))
    · rw [cd_cvn h12] at ht
      exact br_t (by rw [cd_rd rfl (by omega) ht]; exact nI_pos' (by omega)) ⟨hin37, nm_r (cd_rd rfl (by omega) ht) (hon h0 (by omega))⟩
  · exact br_f (by rw [cd_rd rfl (by omega) hbk]; exact nI_ne0 (by omega) (by omega)) (k194 (Or.inl (by omega)))
end
end
section
/-! run: the loop, both sides -/
/-- the other slots stay -/
def cu_UP (h c w g d y k h0 c0 w0 g0 d0 y0 k0 : Nat → Int32) : Prop :=
  (∀ i, 37 ≤ i → h i = h0 i) ∧ (∀ i, 12 ≤ i → c i = c0 i) ∧ (∀ i, 300 ≤ i → w i = w0 i) ∧ (∀ i, 37 ≤ i → g i = g0 i) ∧ (∀ i, 12 ≤ i → d i = d0 i) ∧ (∀ i, 300 ≤ i → y i = y0 i) ∧ (∀ i, 1 ≤ i → k i = k0 i)
theorem cu_UPt {h c w g d y k h0 c0 w0 g0 d0 y0 k0 h1 c1 w1 g1 d1 y1 k1 : Nat → Int32} (A : cu_UP h c w g d y k h0 c0 w0 g0 d0 y0 k0) (B : cu_UP h0 c0 w0 g0 d0 y0 k0 h1 c1 w1 g1 d1 y1 k1) : cu_UP h c w g d y k h1 c1 w1 g1 d1 y1 k1 := by
  obtain ⟨a1, a2, a3, a4, a5, a6, a7⟩ := A
  obtain ⟨b1, b2, b3, b4, b5, b6, b7⟩ := B
  exact ⟨fun i hi => (a1 i hi).trans (b1 i hi), fun i hi => (a2 i hi).trans (b2 i hi), fun i hi => (a3 i hi).trans (b3 i hi), fun i hi => (a4 i hi).trans (b4 i hi), fun i hi => (a5 i hi).trans (b5 i hi), fun i hi => (a6 i hi).trans (b6 i hi), fun i hi => (a7 i hi).trans (b7 i hi)⟩
section
variable {f_drafted f_blocks f_edges f_probed f_paths f_fresh f_x f_y f_steps : Int32} {a_op a_with a_kind a_target a_from a_to a_exit a_weights a_inTree a_back a_first a_probes a_joined a_order a_ahead a_met a_way a_ways a_adds a_begins a_hits a_cuts a_gone a_runs a_version a_counts a_known : Nat → Int32} {g_made g_blocks g_edges g_paths g_many g_lastX g_lastY g_lastBlocks : Int32} {b_op b_number b_kind b_target b_from b_to b_exit b_weight b_firstEdge b_tree b_back b_row b_length b_gone b_done b_went b_cut b_kept b_mark b_way b_tried b_stack : Nat → Int32}
set_option maxHeartbeats 4000000 in
theorem cu_loop {nb : Nat} {ki fs F T bk m rk tr : Nat → Nat} {R x5 : Int32} (G : cg_GR nb ki fs F T) (D : cg_DF nb ki fs T m bk rk) (hPX : cr_PX nb ki fs T m bk f_paths a_adds a_begins) (hPY : cr_PY (cp_LL nb ki fs T bk nb) g_paths g_many b_row b_length)
    (hx5 : ((cp_LL nb ki fs T bk nb).length ≤ 300 ∧ x5 = 1) ∨ (300 < (cp_LL nb ki fs T bk nb).length ∧ x5 = 0)) (hop : a_op = b_op ∧ a_with = b_number ∧ a_kind = b_kind) (hor : ∀ i, i < 24 → ∃ o, o ≤ 7 ∧ a_op i = nI o) (hki : ∀ b, b < nb → a_kind (12 + b) = nI (ki b))
    (hfi : ∀ b, b ≤ nb → a_first b = nI (fs b)) (hto : ∀ e, e < fs nb + 1 → a_to e = nI (T e)) (hyf : ∀ b, b < nb → b_firstEdge b = nI (fs b)) (hyt : ∀ e, e < fs nb + 1 → b_to e = cd_cv (T e)) (hK : cr_K (fs nb + 1) bk a_back b_back) (hin : ∀ e, e < fs nb + 1 → tr e ≤ 1 ∧ a_inTree e = nI (tr e)) :
    ∀ N st b (pi : List Nat) x4 f_x f_y a_hits a_cuts a_gone g_lastX g_lastY g_lastBlocks b_gone b_done b_went b_cut b_way, st + N = 99 → b < nb → m b = 2 → pi.length + rk b < 12 → cy_wy b_way pi → f_x = g_lastX → f_y = g_lastY →
      ((cp_LL nb ki fs T bk nb).length ≤ 300 → ∃ q, x4 = nI q ∧ cp_in (cp_LL nb ki fs T bk nb) q pi (cp_LB ki fs T bk b) ∧ q + (cp_LB ki fs T bk b).length ≤ (cp_LL nb ki fs T bk nb).length) →
      cu_I nb ki fs F T bk tr b a_hits a_cuts a_gone R b_gone b_done b_went (b_cut 0) →
      ∃ (r x y s : Int32) (h c w g d yw ct wy : Nat → Int32), cf_CS nb ki fs F T bk tr h c w R g d yw (ct 0) ∧ cu_UP h c w g d yw ct a_hits a_cuts a_gone b_gone b_done b_went b_cut ∧
        (∀ post : Int32 → SX → Prop, post r (f_drafted, f_blocks, f_edges, f_probed, f_paths, f_fresh, x, y, s, a_op, a_with, a_kind, a_target, a_from, a_to, a_exit, a_weights, a_inTree, a_back, a_first, a_probes, a_joined, a_order, a_ahead, a_met, a_way, a_ways, a_adds, a_begins, h, c, w, a_runs, a_version, a_counts, a_known) → ∃ n, wX_run_72 post x5 n (nI b) x4 f_drafted f_blocks f_edges f_probed f_paths f_fresh f_x f_y (nI st) a_op a_with a_kind a_target a_from a_to a_exit a_weights a_inTree a_back a_first a_probes a_joined a_order a_ahead a_met a_way a_ways a_adds a_begins a_hits a_cuts a_gone a_runs a_version a_counts a_known) ∧
        (∀ post : Int32 → SY → Prop, post r (g_made, g_blocks, g_edges, g_paths, g_many, x, y, s, b_op, b_number, b_kind, b_target, b_from, b_to, b_exit, b_weight, b_firstEdge, b_tree, b_back, b_row, b_length, g, d, yw, ct, b_kept, b_mark, wy, b_tried, b_stack) → ∃ n, wY_run_58 post n (nI b) (nI pi.length) (nI st) g_made g_blocks g_edges g_paths g_many g_lastX g_lastY g_lastBlocks b_op b_number b_kind b_target b_from b_to b_exit b_weight b_firstEdge b_tree b_back b_row b_length b_gone b_done b_went b_cut b_kept b_mark b_way b_tried b_stack) := by
  have hnb := G.2.1
  have hne := cg_ne G
  obtain ⟨ho1, ho2, ho3⟩ := hop
  intro N
  induction N with
  | zero =>
    intro st b pi x4 f_x f_y a_hits a_cuts a_gone g_lastX g_lastY g_lastBlocks b_gone b_done b_went b_cut b_way hN hb hm hpl hwy hfx hfy hq I
    obtain ⟨o, oo1, oo2⟩ := hor (12 + b) (by omega)
    obtain ⟨x, y, w1, w2⟩ := cu_work (f_drafted := f_drafted) (f_blocks := f_blocks) (f_edges := f_edges) (f_probed := f_probed) (f_paths := f_paths) (f_fresh := f_fresh) (f_x := f_x) (f_y := f_y) (a_op := a_op) (a_with := a_with) (a_kind := a_kind) (a_target := a_target) (a_from := a_from) (a_to := a_to) (a_exit := a_exit) (a_weights := a_weights) (a_inTree := a_inTree) (a_back := a_back) (a_first := a_first) (a_probes := a_probes) (a_joined := a_joined) (a_order := a_order) (a_ahead := a_ahead) (a_met := a_met) (a_way := a_way) (a_ways := a_ways) (a_adds := a_adds) (a_begins := a_begins) (a_hits := a_hits) (a_cuts := a_cuts) (a_gone := a_gone) (a_runs := a_runs) (a_version := a_version) (a_counts := a_counts) (a_known := a_known) (f_steps := nI st) (g_made := g_made) (g_blocks := g_blocks) (g_edges := g_edges) (g_paths := g_paths) (g_many := g_many) (g_lastX := g_lastX) (g_lastY := g_lastY) (g_lastBlocks := g_lastBlocks) (b_op := b_op) (b_number := b_number) (b_kind := b_kind) (b_target := b_target) (b_from := b_from) (b_to := b_to) (b_exit := b_exit) (b_weight := b_weight) (b_firstEdge := b_firstEdge) (b_tree := b_tree) (b_back := b_back) (b_row := b_row) (b_length := b_length) (b_gone := b_gone) (b_done := b_done) (b_went := b_went) (b_cut := b_cut) (b_kept := b_kept) (b_mark := b_mark) (b_way := b_way) (b_tried := b_tried) (b_stack := b_stack) (b := b) (o := o) (by omega) oo1 oo2 hfx hfy
    have w2' : ∀ post : SY → Prop, post (g_made, g_blocks, g_edges, g_paths, g_many, x, y, g_lastBlocks, b_op, b_number, b_kind, b_target, b_from, b_to, b_exit, b_weight, b_firstEdge, b_tree, b_back, b_row, b_length, b_gone, b_done, b_went, b_cut, b_kept, b_mark, b_way, b_tried, b_stack) → wpY_work post (g_made, g_blocks, g_edges, g_paths, g_many, g_lastX, g_lastY, g_lastBlocks, b_op, b_number, b_kind, b_target, b_from, b_to, b_exit, b_weight, b_firstEdge, b_tree, b_back, b_row, b_length, b_gone, b_done, b_went, b_cut, b_kept, b_mark, b_way, b_tried, b_stack) (b_op (12 + nI b).toNatClampNeg) (b_number (12 + nI b).toNatClampNeg) := by
      intro post hp
      have z1 : b_op (12 + nI b).toNatClampNeg = nI o := cd_rd (nI_add 12 b) (by omega) (by rw [← ho1]; exact oo2)
      have z2 : b_number (12 + nI b).toNatClampNeg = a_with (12 + b) := cd_rd (nI_add 12 b) (by omega) (by rw [← ho2])
      rw [z1, z2]; exact w2 post hp
    have hst : st = 99 := by omega
    refine ⟨1, x, y, nI 100, a_hits, upd a_cuts b (a_cuts b + 1), a_gone, b_gone, upd b_done b (b_done b + 1), b_went, upd b_cut 0 (b_cut 0 + 1), b_way, ?_, ⟨fun _ _ => rfl, fun i hi => pk_un (by omega), fun _ _ => rfl, fun _ _ => rfl, fun i hi => pk_un (by omega), fun _ _ => rfl, fun i hi => pk_un (by omega)⟩, fun post hp => ⟨1, ?_⟩, fun post hp => ⟨1, ?_⟩⟩
    · rw [pk_us]; exact cu_ct hnb hb I
    · exact cu_xcut (b := b) (by omega) (by rw [hst]) w1 hp
    · exact cu_ycut (b := b) (by omega) hst w2' hp
  | succ N ih =>
    intro st b pi x4 f_x f_y a_hits a_cuts a_gone g_lastX g_lastY g_lastBlocks b_gone b_done b_went b_cut b_way hN hb hm hpl hwy hfx hfy hq I
    obtain ⟨o, oo1, oo2⟩ := hor (12 + b) (by omega)
    obtain ⟨x, y, w1, w2⟩ := cu_work (f_drafted := f_drafted) (f_blocks := f_blocks) (f_edges := f_edges) (f_probed := f_probed) (f_paths := f_paths) (f_fresh := f_fresh) (f_x := f_x) (f_y := f_y) (a_op := a_op) (a_with := a_with) (a_kind := a_kind) (a_target := a_target) (a_from := a_from) (a_to := a_to) (a_exit := a_exit) (a_weights := a_weights) (a_inTree := a_inTree) (a_back := a_back) (a_first := a_first) (a_probes := a_probes) (a_joined := a_joined) (a_order := a_order) (a_ahead := a_ahead) (a_met := a_met) (a_way := a_way) (a_ways := a_ways) (a_adds := a_adds) (a_begins := a_begins) (a_hits := a_hits) (a_cuts := a_cuts) (a_gone := a_gone) (a_runs := a_runs) (a_version := a_version) (a_counts := a_counts) (a_known := a_known) (f_steps := nI st) (g_made := g_made) (g_blocks := g_blocks) (g_edges := g_edges) (g_paths := g_paths) (g_many := g_many) (g_lastX := g_lastX) (g_lastY := g_lastY) (g_lastBlocks := g_lastBlocks) (b_op := b_op) (b_number := b_number) (b_kind := b_kind) (b_target := b_target) (b_from := b_from) (b_to := b_to) (b_exit := b_exit) (b_weight := b_weight) (b_firstEdge := b_firstEdge) (b_tree := b_tree) (b_back := b_back) (b_row := b_row) (b_length := b_length) (b_gone := b_gone) (b_done := b_done) (b_went := b_went) (b_cut := b_cut) (b_kept := b_kept) (b_mark := b_mark) (b_way := b_way) (b_tried := b_tried) (b_stack := b_stack) (b := b) (o := o) (by omega) oo1 oo2 hfx hfy
    have w2' : ∀ post : SY → Prop, post (g_made, g_blocks, g_edges, g_paths, g_many, x, y, g_lastBlocks, b_op, b_number, b_kind, b_target, b_from, b_to, b_exit, b_weight, b_firstEdge, b_tree, b_back, b_row, b_length, b_gone, b_done, b_went, b_cut, b_kept, b_mark, b_way, b_tried, b_stack) → wpY_work post (g_made, g_blocks, g_edges, g_paths, g_many, g_lastX, g_lastY, g_lastBlocks, b_op, b_number, b_kind, b_target, b_from, b_to, b_exit, b_weight, b_firstEdge, b_tree, b_back, b_row, b_length, b_gone, b_done, b_went, b_cut, b_kept, b_mark, b_way, b_tried, b_stack) (b_op (12 + nI b).toNatClampNeg) (b_number (12 + nI b).toNatClampNeg) := by
      intro post hp
      have z1 : b_op (12 + nI b).toNatClampNeg = nI o := cd_rd (nI_add 12 b) (by omega) (by rw [← ho1]; exact oo2)
      have z2 : b_number (12 + nI b).toNatClampNeg = a_with (12 + b) := cd_rd (nI_add 12 b) (by omega) (by rw [← ho2])
      rw [z1, z2]; exact w2 post hp
    have hkb := (G.2.2.2.1 b hb).1
    obtain ⟨j, j1, c1, c2⟩ := cu_choice (f_drafted := f_drafted) (f_blocks := f_blocks) (f_edges := f_edges) (f_probed := f_probed) (f_paths := f_paths) (f_fresh := f_fresh) (a_op := a_op) (a_with := a_with) (a_kind := a_kind) (a_target := a_target) (a_from := a_from) (a_to := a_to) (a_exit := a_exit) (a_weights := a_weights) (a_inTree := a_inTree) (a_back := a_back) (a_first := a_first) (a_probes := a_probes) (a_joined := a_joined) (a_order := a_order) (a_ahead := a_ahead) (a_met := a_met) (a_way := a_way) (a_ways := a_ways) (a_adds := a_adds) (a_begins := a_begins) (a_hits := a_hits) (a_cuts := a_cuts) (a_gone := a_gone) (a_runs := a_runs) (a_version := a_version) (a_counts := a_counts) (a_known := a_known) (f_x := x) (f_y := y) (f_steps := nI (st + 1)) (b := b) (k := ki b) (by omega) hkb (hki b hb)
    have c2' : ∀ post : Int32 → Prop, post (nI j) → wpY_choose post (b_kind (12 + nI b).toNatClampNeg) x y := by
      intro post hp
      have z1 : b_kind (12 + nI b).toNatClampNeg = nI (ki b) := cd_rd (nI_add 12 b) (by omega) (by rw [← ho3]; exact hki b hb)
      rw [z1]; exact c2 post hp
    have hlt := cg_lt G hb j1
    obtain ⟨hFe, hTe⟩ := G.2.2.2.2.1 b j hb j1
    have hDe := D.2.2.2.1 b j hb hm j1
    have hin1 := fun J => cp_in1 G D (b := b) (j := j) (L := cp_LL nb ki fs T bk nb) hb hm j1 (pi := pi) (q := J)
    obtain ⟨ad, ad1, ad2, ad3⟩ := hPX.2.2 b j hb hm j1
    have hflb := cp_flb (f := fun i => cp_LE ki fs T bk (fs b + i)) j1
    rw [← cp_eq G D hb hm] at hflb
    have hb01 : bk (fs b + j) ≤ 1 := by rcases cg_bk G D (e := fs b + j) (by omega) with h | ⟨h, _⟩ <;> omega
    have hL12 := fun {p : List Nat} (hp : p ∈ cp_LL nb ki fs T bk nb) => cp_LLl G D hp
    generalize hee : fs b + j = e at *
    obtain ⟨it1, it2⟩ := hin e (by omega)
    obtain ⟨kb1, kb2⟩ := hK e (by omega)
    have hT12 := (cg_FT12 G (e := e) (by omega)).2
    have I1 := cu_mv (e := e) hlt hFe hb I
    have hfib := hfi b (by omega)
    have hyfb := hyf b hb
    have hwy1 := cy_wy1 (e := e) hwy
    -- where the number stands behind the edge
    have hq1 : (cp_LL nb ki fs T bk nb).length ≤ 300 → ∃ q, x4 + a_adds e = nI q ∧ cp_in (cp_LL nb ki fs T bk nb) q pi (cp_LE ki fs T bk e) ∧ q + (cp_LE ki fs T bk e).length ≤ (cp_LL nb ki fs T bk nb).length := by
      intro hle
      obtain ⟨q, q1, q2, q3⟩ := hq hle
      have ha : ad = (cp_fl (fun i => cp_LE ki fs T bk (fs b + i)) j).length := cp_sre ad3 (by omega)
      exact ⟨q + (cp_fl (fun i => cp_LE ki fs T bk (fs b + i)) j).length, by rw [q1, ad2, nI_add, ha], hin1 q q2, by omega⟩
    by_cases hend : bk e = 1 ∨ T e = 12
    · -- a path ends
      have hcpx : ∃ (gn wn : Nat → Int32), ((x5 = 0 ∧ gn = a_gone) ∨ (x5 = 1 ∧ ∃ q, q < 900 ∧ x4 + a_adds e = nI q ∧ gn = upd a_gone q (a_gone q + 1))) ∧ (∀ i, 300 ≤ i → gn i = a_gone i) ∧ (∀ i, 300 ≤ i → wn i = b_went i) ∧ ((cp_LL nb ki fs T bk nb).length ≤ 300 → ∀ p, p < (cp_LL nb ki fs T bk nb).length → gn p = wn p) ∧
          ∀ post : SY → Prop, post (g_made, g_blocks, g_edges, g_paths, g_many, x, y, nI (st + 1), b_op, b_number, b_kind, b_target, b_from, b_to, b_exit, b_weight, b_firstEdge, b_tree, b_back, b_row, b_length, upd b_gone e (b_gone e + 1), upd b_done b (b_done b + 1), wn, b_cut, b_kept, b_mark, upd b_way pi.length (nI e), b_tried, b_stack) → wpY_countPath post (g_made, g_blocks, g_edges, g_paths, g_many, x, y, nI (st + 1), b_op, b_number, b_kind, b_target, b_from, b_to, b_exit, b_weight, b_firstEdge, b_tree, b_back, b_row, b_length, upd b_gone e (b_gone e + 1), upd b_done b (b_done b + 1), b_went, b_cut, b_kept, b_mark, upd b_way pi.length (nI e), b_tried, b_stack) (nI (pi.length + 1)) := by
        rcases hx5 with ⟨l1, l2⟩ | ⟨l1, l2⟩
        · obtain ⟨q, q1, q2, q3⟩ := hq1 l1
          have hq0 := cp_in3 hend q2
          have hqlt := (List.getElem?_eq_some_iff.mp hq0).1
          rcases hPY with ⟨y1, y2, y3, y4⟩ | ⟨y1, y2, y3⟩
          · have hMq := cu_Mq G D y4 hq0 hwy1
            rw [List.length_append, List.length_singleton] at hMq
            obtain ⟨wn, n1, n2, n3⟩ := cu_cp (g_made := g_made) (g_blocks := g_blocks) (g_edges := g_edges) (g_paths := g_paths) (g_many := g_many) (b_op := b_op) (b_number := b_number) (b_kind := b_kind) (b_target := b_target) (b_from := b_from) (b_to := b_to) (b_exit := b_exit) (b_weight := b_weight) (b_firstEdge := b_firstEdge) (b_tree := b_tree) (b_back := b_back) (b_row := b_row) (b_length := b_length) (b_cut := b_cut) (b_kept := b_kept) (b_mark := b_mark) (b_tried := b_tried) (b_stack := b_stack) (g_lastX := x) (g_lastY := y) (g_lastBlocks := nI (st + 1)) (b_gone := upd b_gone e (b_gone e + 1)) (b_done := upd b_done b (b_done b + 1)) (b_way := upd b_way pi.length (nI e)) (n := pi.length + 1) (P := (cp_LL nb ki fs T bk nb).length) (by omega) y2 y3 (cp_LL nb ki fs T bk nb).length 0 b_went (by omega)
            refine ⟨upd a_gone q (a_gone q + 1), wn, Or.inr ⟨l2, q, by omega, q1, rfl⟩, fun i hi => pk_un (by omega), fun i hi => n1 i (by omega), fun _ p hp => ?_, fun post hp => ⟨_, n3 post hp⟩⟩
            have hI6 := I.2.2.2.2.2 l1 p hp
            by_cases ep : p = q
            · subst ep; rw [pk_us, (n2 p (by omega) hp).1 ((hMq p hp).mpr rfl), hI6]
            · rw [pk_un ep, (n2 p (by omega) hp).2 (fun hM => ep ((hMq p hp).mp hM)), hI6]
          · omega
        · rcases hPY with ⟨y1, y2, y3, y4⟩ | ⟨y1, y2, y3⟩
          · omega
          · obtain ⟨wn, n1, n2, n3⟩ := cu_cp (g_made := g_made) (g_blocks := g_blocks) (g_edges := g_edges) (g_paths := g_paths) (g_many := g_many) (b_op := b_op) (b_number := b_number) (b_kind := b_kind) (b_target := b_target) (b_from := b_from) (b_to := b_to) (b_exit := b_exit) (b_weight := b_weight) (b_firstEdge := b_firstEdge) (b_tree := b_tree) (b_back := b_back) (b_row := b_row) (b_length := b_length) (b_cut := b_cut) (b_kept := b_kept) (b_mark := b_mark) (b_tried := b_tried) (b_stack := b_stack) (g_lastX := x) (g_lastY := y) (g_lastBlocks := nI (st + 1)) (b_gone := upd b_gone e (b_gone e + 1)) (b_done := upd b_done b (b_done b + 1)) (b_way := upd b_way pi.length (nI e)) (n := pi.length + 1) (P := 300) (by omega) (by omega) y3 300 0 b_went (by omega)
            exact ⟨a_gone, wn, Or.inl ⟨l2, rfl⟩, fun _ _ => rfl, fun i hi => n1 i (by omega), fun h => by omega, fun post hp => ⟨_, n3 post hp⟩⟩
      obtain ⟨gn, wn, g1, g2, g3, g4, g5⟩ := hcpx
      have I2 : cu_I nb ki fs F T bk tr (T e) (if tr e = 0 then upd a_hits e (a_hits e + 1) else a_hits) a_cuts gn R (upd b_gone e (b_gone e + 1)) (upd b_done b (b_done b + 1)) wn (b_cut 0) := ⟨I1.1, I1.2.1, I1.2.2.1, I1.2.2.2.1, I1.2.2.2.2.1, g4⟩
      have hup : cu_UP (if tr e = 0 then upd a_hits e (a_hits e + 1) else a_hits) a_cuts gn (upd b_gone e (b_gone e + 1)) (upd b_done b (b_done b + 1)) wn b_cut a_hits a_cuts a_gone b_gone b_done b_went b_cut :=
        ⟨fun i hi => by split
                        · exact pk_un (by omega)
                        · rfl, fun _ _ => rfl, g2, fun i hi => pk_un (by omega), fun i hi => pk_un (by omega), g3, fun _ _ => rfl⟩
      by_cases h12 : T e = 12
      · -- outside: the run ends
        rw [h12] at I2
        refine ⟨0, x, y, nI (st + 1), _, a_cuts, gn, upd b_gone e (b_gone e + 1), upd b_done b (b_done b + 1), wn, b_cut, upd b_way pi.length (nI e), cu_fin I2, hup, fun post hp => ⟨2, ?_⟩, fun post hp => ⟨2, ?_⟩⟩
        · refine cu_xmv (b := b) (j := j) (s := fs b) (e := e) (tr := tr) (by omega) (by omega) rfl w1 c1 hfib hee (by omega) it2 it1 (cu_xend (e := e) (t := 12) (bk := bk e) (gn := gn) (by omega) (by rw [hto e (by omega), h12]) (by omega) kb1 hb01 (Or.inr rfl) g1 ?_)
          exact br_t (by decide) hp
        · refine cu_ymv (b := b) (j := j) (s := fs b) (e := e) (t := 12) (bk := bk e) (w := wn) (by omega) (by omega) (by omega) w2' c2' hyfb hee (by omega) (by rw [hyt e (by omega), h12]) (by omega) kb2 hb01 (fun _ h => by omega) (fun _ => g5) (fun _ => ?_)
          exact br_t (by decide) hp
      · -- a back edge: a new path begins
        have hbk1 : bk e = 1 := by omega
        have hTn : T e < nb ∧ m (T e) = 2 := by
          rcases hDe with ⟨h, _⟩ | ⟨h1, h2, _⟩
          · exact absurd h h12
          · exact ⟨h1, h2⟩
        have hs1 : cp_s T bk (fs nb + 1) (T e) = 1 := (cp_s1 T bk _ _).mpr (Or.inr ⟨e, by omega, hbk1, rfl⟩)
        have hrkT := D.2.2.1 _ hTn.1 hTn.2
        obtain ⟨r, rx, ry, rs, h', c', w', g', d', yw, ct, wy, p1, p2, p3, p4⟩ := ih (st + 1) (T e) [] (a_begins (T e)) x y _ a_cuts gn x y (nI (st + 1)) (upd b_gone e (b_gone e + 1)) (upd b_done b (b_done b + 1)) wn b_cut (upd b_way pi.length (nI e)) (by omega) hTn.1 hTn.2 (by rw [List.length_nil]; omega) (fun i z hz => by cases hz) rfl rfl (fun hle => by
          obtain ⟨qb, b1, b2, b3⟩ := (hPX.2.1 (T e) hTn.1).1 hs1
          have hlb : (cp_LL nb ki fs T bk (T e)).length ≤ (cp_LL nb ki fs T bk nb).length := cp_fle (f := cp_B nb ki fs T bk) nb (by omega)
          have hqb : qb = (cp_LL nb ki fs T bk (T e)).length := cp_sre b3 (by omega)
          refine ⟨qb, b2, by rw [hqb]; exact cp_in0 hTn.1 hs1, ?_⟩
          have := cp_flb (f := cp_B nb ki fs T bk) (j := T e) (n := nb) hTn.1
          rw [show cp_B nb ki fs T bk (T e) = cp_LB ki fs T bk (T e) from if_pos hs1] at this
          rw [hqb]; exact this) I2
        refine ⟨r, rx, ry, rs, h', c', w', g', d', yw, ct, wy, p1, cu_UPt p2 hup, fun post hp => ?_, fun post hp => ?_⟩
        · obtain ⟨n, hn⟩ := p3 post hp
          refine ⟨n + 1, cu_xmv (b := b) (j := j) (s := fs b) (e := e) (tr := tr) (by omega) (by omega) rfl w1 c1 hfib hee (by omega) it2 it1 (cu_xend (e := e) (t := T e) (bk := bk e) (gn := gn) (by omega) (hto e (by omega)) hT12 kb1 hb01 hend g1 ?_)⟩
          rw [if_neg h12]; exact hn
        · obtain ⟨n, hn⟩ := p4 post hp
          refine ⟨n + 1, cu_ymv (b := b) (j := j) (s := fs b) (e := e) (t := T e) (bk := bk e) (w := wn) (by omega) (by omega) (by omega) w2' c2' hyfb hee (by omega) (hyt e (by omega)) hT12 kb2 hb01 (fun h _ => by omega) (fun _ => g5) (fun _ => ?_)⟩
          rw [cd_cvn h12]; exact hn
    · -- on to the next block
      have he1 : bk e ≠ 1 := fun h => hend (Or.inl h)
      have he2 : T e ≠ 12 := fun h => hend (Or.inr h)
      have hTn : T e < nb ∧ m (T e) = 2 ∧ rk (T e) < rk b ∧ bk e = 0 := by
        rcases hDe with ⟨h, _⟩ | ⟨h1, h2, h | ⟨h3, h4⟩⟩
        · exact absurd h he2
        · exact absurd h he1
        · exact ⟨h1, h2, h4, h3⟩
      obtain ⟨hT1, hT2, hT3, hT4⟩ := hTn
      have hlen : (pi ++ [e]).length = pi.length + 1 := by rw [List.length_append, List.length_singleton]
      obtain ⟨r, rx, ry, rs, h', c', w', g', d', yw, ct, wy, p1, p2, p3, p4⟩ := ih (st + 1) (T e) (pi ++ [e]) (x4 + a_adds e) x y _ a_cuts a_gone x y (nI (st + 1)) (upd b_gone e (b_gone e + 1)) (upd b_done b (b_done b + 1)) b_went b_cut (upd b_way pi.length (nI e)) (by omega) hT1 hT2 (by rw [hlen]; omega) hwy1 rfl rfl (fun hle => by
        obtain ⟨q, q1, q2, q3⟩ := hq1 hle
        refine ⟨q, q1, cp_in2 he1 he2 q2, ?_⟩
        rw [cp_LEn he1 he2, List.length_map] at q3; exact q3) I1
      rw [hlen] at p4
      have hup : cu_UP (if tr e = 0 then upd a_hits e (a_hits e + 1) else a_hits) a_cuts a_gone (upd b_gone e (b_gone e + 1)) (upd b_done b (b_done b + 1)) b_went b_cut a_hits a_cuts a_gone b_gone b_done b_went b_cut :=
        ⟨fun i hi => by split
                        · exact pk_un (by omega)
                        · rfl, fun _ _ => rfl, fun _ _ => rfl, fun i hi => pk_un (by omega), fun i hi => pk_un (by omega), fun _ _ => rfl, fun _ _ => rfl⟩
      refine ⟨r, rx, ry, rs, h', c', w', g', d', yw, ct, wy, p1, cu_UPt p2 hup, fun post hp => ?_, fun post hp => ?_⟩
      · obtain ⟨n, hn⟩ := p3 post hp
        exact ⟨n + 1, cu_xmv (b := b) (j := j) (s := fs b) (e := e) (tr := tr) (by omega) (by omega) rfl w1 c1 hfib hee (by omega) it2 it1 (cu_xon (e := e) (t := T e) (by omega) (hto e (by omega)) (by omega) (by rw [kb1, hT4]) hn)⟩
      · obtain ⟨n, hn⟩ := p4 post hp
        exact ⟨n + 1, cu_ymv (b := b) (j := j) (s := fs b) (e := e) (t := T e) (bk := bk e) (w := b_went) (by omega) (by omega) (by omega) w2' c2' hyfb hee (by omega) (hyt e (by omega)) hT12 kb2 hb01 (fun _ _ => hn) (fun h => absurd h hend) (fun h => absurd h hend)⟩
end
end
section
theorem i_vc_run {k : Nat} {u : SX} {v : SY} (I : i_Rel k u v) (hk : k + 6 ≤ 3072) (v1 : Int32) (v2 : Int32) : wpX_run (fun r u' => wpY_run (fun r' v' => r' = r ∧ i_Rel (k + 6) u' v') v v1 v2) u v1 v2 := by
  revert I
  refine cr_el (P := fun u v => i_Rel k u v → wpX_run (fun r u' => wpY_run (fun r' v' => r' = r ∧ i_Rel (k + 6) u' v') v v1 v2) u v1 v2) ?_ u v
  intro f_drafted f_blocks f_edges f_probed f_paths f_fresh f_x f_y f_steps a_op a_with a_kind a_target a_from a_to a_exit a_weights a_inTree a_back a_first a_probes a_joined a_order a_ahead a_met a_way a_ways a_adds a_begins a_hits a_cuts a_gone a_runs a_version a_counts a_known g_made g_blocks g_edges g_paths g_many g_lastX g_lastY g_lastBlocks b_op b_number b_kind b_target b_from b_to b_exit b_weight b_firstEdge b_tree b_back b_row b_length b_gone b_done b_went b_cut b_kept b_mark b_way b_tried b_stack
  intro I
  have I6 := i_up I
  have I6' := I6
  obtain ⟨hD, hop, hxy, hV, hB⟩ := I6
  rcases hB with ⟨b1, b2, b3, b4, b5, b6, b7⟩ | ⟨nb, ki, fs, F, T, bk, m, rk, tr, B⟩
  · exact br_t b1 (br_t b5 ⟨rfl, I6'⟩)
  · obtain ⟨⟨G, ⟨e1, e2, e3, e4⟩, e5, e6, e7, e8⟩, hK, hDF, hPX, hPY, hw, hT, hS, hS2, hfr⟩ := B
    have hnb := G.2.1
    have hnb1 := G.1
    have hne := cg_ne G
    have hS0 := cl_S0.mp hS
    have hf : ¬ f_blocks = 0 := by rw [e1]; exact nI_ne0 (by omega) (by omega)
    have hg : ¬ g_edges = 0 := by rw [e4]; exact nI_ne0 (by omega) (by omega)
    obtain ⟨n0, n1, n2, n3⟩ := hS0.2.2.2.2.1
    have gE : g_edges - 1 = nI (fs nb) := by rw [e4, nI_pred]
    have yin : vp_in (g_edges - 1) 111 := pk_in (fs nb) 111 (by omega) (hx := gE)
    have rg : b_gone (g_edges - 1).toNatClampNeg = nI n0 := cd_rd gE (by omega) n3
    by_cases hr : n0 = 1000000
    · refine br_f hf (br_t (by rw [n2, hr]; rfl) ?_)
      exact br_f hg ⟨yin, br_f (by rw [rg]; exact nI_nlt (b := 1000000) (by omega) (by omega)) ⟨rfl, I6'⟩⟩
    · have hr' : ¬ a_runs 0 = 1000000 := by rw [n2]; exact fun h => hr (cd_im (b := 1000000) h (by omega) (by omega))
      obtain ⟨dr, d1, d2, D1, D2, D3, D4⟩ := hD
      have I0 := cu_start (tr := tr) G hT.2.2.2.2 hS0 hr'
      have hx5 : ∃ x5 : Int32, (((cp_LL nb ki fs T bk nb).length ≤ 300 ∧ x5 = 1) ∨ (300 < (cp_LL nb ki fs T bk nb).length ∧ x5 = 0)) ∧ ∀ A : Int32 → Prop, A x5 → ((300 < f_paths → A 0) ∧ (¬ 300 < f_paths → A 1)) := by
        rcases cr_PP hPX hPY with ⟨y1, y2, y3, y4, y5⟩ | ⟨y1, y2, y3, pp, y4, y5, y6⟩
        · exact ⟨1, Or.inl ⟨y2, rfl⟩, fun A h => br_f (by rw [y3]; exact nI_nlt (a := 300) y2 (by omega)) h⟩
        · exact ⟨0, Or.inr ⟨y2, rfl⟩, fun A h => br_t (by rw [y6]; exact nI_lt (a := 300) y4 (by omega)) h⟩
      obtain ⟨x5, hx5a, hx5b⟩ := hx5
      have hs0 : cp_s T bk (fs nb + 1) 0 = 1 := (cp_s1 T bk _ 0).mpr (Or.inl rfl)
      have hrk0 := hDF.2.2.1 0 (by omega) hDF.1
      obtain ⟨r, x, y, s, h, c, w, g, d, yw, ct, wy, p1, p2, p3, p4⟩ := cu_loop (f_drafted := f_drafted) (f_blocks := f_blocks) (f_edges := f_edges) (f_probed := f_probed) (f_paths := f_paths) (a_op := a_op) (a_with := a_with) (a_kind := a_kind) (a_target := a_target) (a_from := a_from) (a_to := a_to) (a_exit := a_exit) (a_weights := a_weights) (a_inTree := a_inTree) (a_back := a_back) (a_first := a_first) (a_probes := a_probes) (a_joined := a_joined) (a_order := a_order) (a_ahead := a_ahead) (a_met := a_met) (a_way := a_way) (a_ways := a_ways) (a_adds := a_adds) (a_begins := a_begins) (a_version := a_version) (a_counts := a_counts) (a_known := a_known) (f_fresh := 0) (a_runs := upd a_runs 0 (a_runs 0 + 1)) (g_made := g_made) (g_blocks := g_blocks) (g_edges := g_edges) (g_paths := g_paths) (g_many := g_many) (b_op := b_op) (b_number := b_number) (b_kind := b_kind) (b_target := b_target) (b_from := b_from) (b_to := b_to) (b_exit := b_exit) (b_weight := b_weight) (b_firstEdge := b_firstEdge) (b_tree := b_tree) (b_back := b_back) (b_row := b_row) (b_length := b_length) (b_kept := b_kept) (b_mark := b_mark) (b_tried := b_tried) (b_stack := b_stack) G hDF hPX hPY hx5a hop D2 e5 e7 (fun e he => (e6 e he).2.2.1) e8 (fun e he => (e6 e he).2.2.2.1) hK (fun e he => ⟨(hT.1 e he).1, (hT.1 e he).2.1⟩)
        99 0 0 [] 0 v1 v2 a_hits a_cuts a_gone v1 v2 g_lastBlocks (upd b_gone (fs nb) (b_gone (fs nb) + 1)) b_done b_went b_cut b_way (by omega) (by omega) hDF.1 (by rw [List.length_nil]; omega) (fun i z hz => by cases hz) rfl rfl (fun hle => by
          refine ⟨0, rfl, cp_in0 (b := 0) (by omega) hs0, ?_⟩
          have := cp_flb (f := cp_B nb ki fs T bk) (j := 0) (n := nb) (by omega)
          rw [show cp_B nb ki fs T bk 0 = cp_LB ki fs T bk 0 from if_pos hs0] at this
          exact this) I0
      refine br_f hf (br_f hr' (nm_e (hx5b (fun z => ∃ n72 : Nat, wX_run_72 (fun r u' => wpY_run (fun r' v' => r' = r ∧ i_Rel (k + 6) u' v') (g_made, g_blocks, g_edges, g_paths, g_many, g_lastX, g_lastY, g_lastBlocks, b_op, b_number, b_kind, b_target, b_from, b_to, b_exit, b_weight, b_firstEdge, b_tree, b_back, b_row, b_length, b_gone, b_done, b_went, b_cut, b_kept, b_mark, b_way, b_tried, b_stack) v1 v2) z n72 0 0 f_drafted f_blocks f_edges f_probed f_paths 0 v1 v2 0 a_op a_with a_kind a_target a_from a_to a_exit a_weights a_inTree a_back a_first a_probes a_joined a_order a_ahead a_met a_way a_ways a_adds a_begins a_hits a_cuts a_gone (upd a_runs 0 (a_runs 0 + 1)) a_version a_counts a_known) (p3 _ ?_))))
      refine br_f hg ⟨yin, br_t (by rw [rg]; exact nI_lt (b := 1000000) (by omega) (by omega)) ⟨yin, yin, nm_r (cd_up gE (by omega) (congrArg (· + (1 : Int32)) (cd_rd (a := b_gone) gE (by omega) rfl))) (p4 _ ?_)⟩⟩
      refine ⟨rfl, ⟨dr, d1, d2, D1, D2, D3, D4⟩, hop, ⟨rfl, rfl, rfl⟩, hV, Or.inr ⟨nb, ki, fs, F, T, bk, m, rk, tr, ⟨G, ⟨e1, e2, e3, e4⟩, e5, e6, e7, e8⟩, hK, hDF, hPX, hPY, hw, hT, ?_, fun q hq => ?_, Or.inl rfl⟩⟩
      · refine cl_S0.mpr ?_
        rw [pk_us]; exact p1
      · obtain ⟨u1, u2, u3, u4, u5, u6, u7⟩ := p2
        rcases hS2 q hq with hl | ⟨t1, t2, t3⟩
        · exact Or.inl hl
        · refine Or.inr ⟨t1, t2, ?_⟩
          refine cf_CSc hne hnb t3 (fun e he => u1 _ (by omega)) (fun b hb => u2 _ (by omega)) (fun p hp => u3 _ (by omega)) (pk_un (by omega)) (fun e he => ?_) (fun b hb => u5 _ (by omega)) (fun p hp => u6 _ (by omega)) (u7 _ (by omega))
          rw [u4 _ (by omega), pk_un (by omega)]
end
