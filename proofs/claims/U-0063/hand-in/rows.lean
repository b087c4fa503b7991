section
/-! rows of the kit (PURE-ROWS) -/
theorem pk_us {f : Nat → Int32} {k : Nat} {x : Int32} : upd f k x k = x := if_pos rfl
theorem pk_un {f : Nat → Int32} {k j : Nat} {x : Int32} (h : j ≠ k) : upd f k x j = f j := if_neg h
theorem pk_sub {a b : Nat} (h : b ≤ a) : nI a - nI b = nI (a - b) := by
  obtain ⟨c, rfl⟩ : ∃ c, a = c + b := ⟨a - b, by omega⟩
  rw [← nI_add, Int32.add_sub_cancel, Nat.add_sub_cancel]
theorem pk_m1 (n : Nat) : nI (n + 1) + (-1) = nI n := by
  rw [← nI_1, Int32.add_assoc, show (1 : Int32) + (-1) = 0 from rfl, Int32.add_zero]
theorem pk_mul (a b : Nat) : nI a * nI b = nI (a * b) := (Int32.ofNat_mul a b).symm
theorem pk_ix (x : Int32) {n : Nat} (hn : n < 2 ^ 31) : x < 0 ∨ nI n ≤ x ∨ ∃ j : Nat, j < n ∧ x = nI j := by
  by_cases h : x < 0
  · exact Or.inl h
  · obtain ⟨j, hj, rfl⟩ := nI_of h
    by_cases h2 : j < n
    · exact Or.inr (Or.inr ⟨j, h2, rfl⟩)
    · exact Or.inr (Or.inl (nI_le (by omega) hj))
theorem pk_le {x y : Int32} {A B : Prop} (a b : Nat) (f : a ≤ b → A) (g : b < a → B) (hx : x = nI a := by rfl) (hy : y = nI b := by rfl) (ha : a < 2 ^ 31 := by omega) (hb : b < 2 ^ 31 := by omega) : (x ≤ y → A) ∧ (¬ x ≤ y → B) := by
  subst hx hy
  rw [nI_leI ha hb]
  exact ⟨f, fun z => g (by omega)⟩
theorem pk_lt {x y : Int32} {A B : Prop} (a b : Nat) (f : a < b → A) (g : b ≤ a → B) (hx : x = nI a := by rfl) (hy : y = nI b := by rfl) (ha : a < 2 ^ 31 := by omega) (hb : b < 2 ^ 31 := by omega) : (x < y → A) ∧ (¬ x < y → B) := by
  subst hx hy
  rw [nI_ltI ha hb]
  exact ⟨f, fun z => g (by omega)⟩
theorem pk_eq {x y : Int32} {A B : Prop} (a b : Nat) (f : a = b → A) (g : a ≠ b → B) (hx : x = nI a := by rfl) (hy : y = nI b := by rfl) (ha : a < 2 ^ 31 := by omega) (hb : b < 2 ^ 31 := by omega) : (x = y → A) ∧ (¬ x = y → B) := by
  subst hx hy
  rw [nI_eq ha hb]
  exact ⟨f, g⟩
theorem pk_in {x : Int32} (n N : Nat) (h : n < N) (hx : x = nI n := by rfl) (hN : N < 2 ^ 31 := by omega) : vp_in x N := by
  subst hx
  exact vp_in_nI h hN
theorem pk_cl {x : Int32} (n : Nat) (hx : x = nI n := by rfl) (h : n < 2 ^ 31 := by omega) : x.toNatClampNeg = n := by
  subst hx
  exact nI_clamp h
theorem pk_tn {n : Nat} (h : n < 2 ^ 32) : (nI n).toBitVec.toNat = n := Nat.mod_eq_of_lt h
theorem pk_and (x : Int32) {m : Int32} (k : Nat) (hm : m.toBitVec.toNat = 2 ^ k - 1) : x &&& m = nI (x.toBitVec.toNat % 2 ^ k) := by
  apply Int32.toBitVec_inj.mp
  apply BitVec.eq_of_toNat_eq
  rw [Int32.toBitVec_and, BitVec.toNat_and, hm, Nat.and_two_pow_sub_one_eq_mod]
  show _ = (BitVec.ofNat 32 _).toNat
  rw [BitVec.toNat_ofNat]
  exact (Nat.mod_eq_of_lt (Nat.lt_of_le_of_lt (Nat.mod_le _ _) x.toBitVec.isLt)).symm
theorem pk_andE (x : Int32) {m : Int32} (k : Nat) (hm : m.toBitVec.toNat = 2 ^ k - 1) : ∃ j : Nat, j < 2 ^ k ∧ x &&& m = nI j := ⟨_, Nat.mod_lt _ (Nat.two_pow_pos k), pk_and x k hm⟩
theorem pk_loop {σ : Type} (W : Nat → Nat → σ → Prop) (I : Nat → σ → Prop) (e i0 : Nat) (s : σ) (hi : i0 ≤ e) (h0 : I i0 s) (hx : ∀ n s, I e s → W (n + 1) e s)
    (hs : ∀ n i s, i < e → I i s → (∀ s', I (i + 1) s' → W n (i + 1) s') → W (n + 1) i s) : ∃ n, W n i0 s :=
  ⟨e + 1, loop_i W I e hx hs (e + 1) i0 s hi (by omega) h0⟩
/-! own numbers -/
theorem dc_ne1 {a : Nat} (h : a < 2 ^ 31) : ¬ nI a = -1 := by
  intro e
  have := nI_pos (n := a) h
  rw [e] at this
  exact this (by decide)
theorem dc_n1 : (-1 : Int32) < 0 := by decide
theorem dc_n1' : ¬ (0 : Int32) ≤ -1 := by decide
theorem dc_inj {a b : Nat} (h : nI a = nI b) (ha : a < 2 ^ 31) (hb : b < 2 ^ 31) : a = b := (nI_eq ha hb).mp h
theorem dc_b0 : vp_nar .boolean 0 = 0 := by decide
theorem dc_b1 : vp_nar .boolean 1 = 1 := by decide
theorem dc_s1 {n : Nat} (h : 0 < n) : nI n - 1 = nI (n - 1) := by
  obtain ⟨m, rfl⟩ : ∃ m, n = m + 1 := ⟨n - 1, by omega⟩
  exact nI_pred m
theorem dc_m1 {n : Nat} (h : 0 < n) : nI n + (-1) = nI (n - 1) := by
  obtain ⟨m, rfl⟩ : ∃ m, n = m + 1 := ⟨n - 1, by omega⟩
  exact pk_m1 m
theorem dc_01 (x : Int32) : x &&& 1 = 0 ∨ x &&& 1 = 1 := by
  obtain ⟨j, hj, e⟩ := pk_andE x (m := 1) 1 (by decide)
  have : j = 0 ∨ j = 1 := by omega
  rcases this with rfl | rfl
  · exact Or.inl e
  · exact Or.inr e
theorem dc_10 : ¬ (1 : Int32) = 0 := by decide
/-- sums -/
def dc_sm (w : Nat → Nat) : Nat → Nat
  | 0 => 0
  | n + 1 => dc_sm w n + w n
theorem dc_sm_le {w : Nat → Nat} {a b : Nat} (h : a ≤ b) : dc_sm w a ≤ dc_sm w b := by
  induction b with
  | zero => have : a = 0 := by omega
            subst this; exact Nat.le_refl _
  | succ b ih =>
    by_cases e : a = b + 1
    · subst e; exact Nat.le_refl _
    · have := ih (by omega)
      show dc_sm w a ≤ dc_sm w b + w b
      omega
theorem dc_sm_eq {w v : Nat → Nat} {n : Nat} (h : ∀ k, k < n → w k = v k) : dc_sm w n = dc_sm v n := by
  induction n with
  | zero => rfl
  | succ n ih =>
    show dc_sm w n + w n = dc_sm v n + v n
    rw [ih (fun k hk => h k (by omega)), h n (by omega)]
theorem dc_sm_ge {w : Nat → Nat} {n : Nat} (h : ∀ k, k < n → 1 ≤ w k) : n ≤ dc_sm w n := by
  induction n with
  | zero => exact Nat.zero_le _
  | succ n ih =>
    have h1 := ih (fun k hk => h k (by omega))
    have h2 := h n (by omega)
    show n + 1 ≤ dc_sm w n + w n
    omega
/-! the states -/
abbrev dc_N : Type := (Nat → Int32) × (Nat → Int32) × (Nat → Int32) × Nat
abbrev dc_O : Type := (Nat → Int32) × (Nat → Int32) × (Nat → Int32) × (Nat → Int32) × (Nat → Int32) × Nat
abbrev dc_X (fa fl fc ml mb lc pr ob : Nat) (im kf : Int32) (N : dc_N) (tr lf lr la lb ld lx lab bp bo nd : Nat → Int32) (Q O : dc_O) (pl : Nat → Int32) : SX :=
  (7, 8, 0, 1, 2, 3, 4, 5, 6, 7, 8, 9, 32, 1024, (nI fa), (nI fl), (nI fc), (nI N.2.2.2), (nI ml), (nI mb), (nI lc), (nI pr), (nI ob), im, 256, (nI Q.2.2.2.2.2), kf, (nI O.2.2.2.2.2), N.1, N.2.1, N.2.2.1, tr, lf, lr, la, lb, ld, lx, lab, bp, bo, nd, Q.1, Q.2.1, Q.2.2.1, Q.2.2.2.1, Q.2.2.2.2.1, O.1, O.2.1, O.2.2.1, O.2.2.2.1, O.2.2.2.2.1, pl)
abbrev dc_Y (fa fl ml mb fc lc kc : Nat) (yk yl yr yt lf lr ld la lb yn kF kR kN : Nat → Int32) : SY :=
  ((nI fa), (nI fl), (nI ml), (nI mb), (nI fc), (nI lc), (nI kc), yk, yl, yr, yt, lf, lr, ld, la, lb, yn, kF, kR, kN)
end
section
section
variable {fa fl fc ml mb lc pr ob kc : Nat} {im kf : Int32} {N : dc_N} {tr lf lr la lb ld lx lab bp bo nd pl : Nat → Int32} {Q O : dc_O} {yk yl yr yt yn kF kR kN : Nat → Int32}
/-! small ones of X -/
theorem dx_isF_t {post : Int32 → Prop} {j : Nat} (h : j < fc) (hc : fc ≤ 32) (K : post 1) : wpX_isFormula post (dc_X fa fl fc ml mb lc pr ob im kf N tr lf lr la lb ld lx lab bp bo nd Q O pl) (nI j) :=
  br_f (nI_pos (by omega)) (br_f (nI_ge h (by omega)) K)
theorem dx_isF_f {post : Int32 → Prop} {f : Int32} (h : f < 0 ∨ nI fc ≤ f) (K : post 0) : wpX_isFormula post (dc_X fa fl fc ml mb lc pr ob im kf N tr lf lr la lb ld lx lab bp bo nd Q O pl) f := by
  by_cases h0 : f < 0
  · exact br_t h0 K
  · exact br_f h0 (br_t (h.resolve_left h0) K)
theorem dy_noF_t {post : Int32 → Prop} {j : Nat} (h : j < fc) (hc : fc ≤ 32) (K : post 0) : wpY_noFormula post (dc_Y fa fl ml mb fc lc kc yk yl yr yt lf lr ld la lb yn kF kR kN) (nI j) :=
  br_f (nI_pos (by omega)) (br_t (nI_lt h (by omega)) K)
theorem dy_noF_f {post : Int32 → Prop} {f : Int32} (h : f < 0 ∨ nI fc ≤ f) (K : post 1) : wpY_noFormula post (dc_Y fa fl ml mb fc lc kc yk yl yr yt lf lr ld la lb yn kF kR kN) f := by
  by_cases h0 : f < 0
  · exact br_t h0 K
  · exact br_f h0 (br_f (Int32.not_lt.mpr (h.resolve_left h0)) K)
theorem dx_node {post : Int32 → Prop} {n : Nat} {k a b : Int32} (h : n < 1024) (K1 : N.1 n = k → N.2.1 n = a → N.2.2.1 n = b → post 1) (K0 : ¬ (N.1 n = k ∧ N.2.1 n = a ∧ N.2.2.1 n = b) → post 0) : wpX_isNode post (dc_X fa fl fc ml mb lc pr ob im kf N tr lf lr la lb ld lx lab bp bo nd Q O pl) (nI n) k a b := by
  have hi : vp_in (nI n) 1024 := vp_in_nI h (by omega)
  have e : (nI n).toNatClampNeg = n := nI_clamp (by omega)
  refine ⟨hi, br_c (fun h1 => ⟨hi, br_c (fun h2 => ⟨hi, br_c (fun h3 => ?_) (fun h3 => ?_)⟩) (fun h2 => ?_)⟩) (fun h1 => ?_)⟩
  · rw [e] at h1 h2 h3; exact K1 h1 h2 h3
  · rw [e] at h3; exact K0 (fun z => h3 z.2.2)
  · rw [e] at h2; exact K0 (fun z => h2 z.2.1)
  · rw [e] at h1; exact K0 (fun z => h1 z.1)
theorem dx_search {post : Int32 → Prop} {k a b : Int32} {e : Nat} (he : e ≤ 1024) : ∀ n i, i ≤ e → e - i < n → (∀ j, i ≤ j → j < e → N.1 j = k → N.2.1 j = a → N.2.2.1 j = b → post (nI j)) → ((∀ j, i ≤ j → j < e → ¬ (N.1 j = k ∧ N.2.1 j = a ∧ N.2.2.1 j = b)) → post (-1)) → wX_search_4 post k a b (nI e) 7 8 0 1 2 3 4 5 6 7 8 9 32 1024 (nI fa) (nI fl) (nI fc) (nI N.2.2.2) (nI ml) (nI mb) (nI lc) (nI pr) (nI ob) im 256 (nI Q.2.2.2.2.2) kf (nI O.2.2.2.2.2) N.1 N.2.1 N.2.2.1 tr lf lr la lb ld lx lab bp bo nd Q.1 Q.2.1 Q.2.2.1 Q.2.2.2.1 Q.2.2.2.2.1 O.1 O.2.1 O.2.2.1 O.2.2.2.1 O.2.2.2.2.1 pl n (nI i) := by
  intro n
  induction n with
  | zero => intro i _ h; omega
  | succ n ih =>
    intro i hi hn K1 K2
    refine pk_le e i (fun h => K2 (fun j h1 h2 => by omega)) (fun h => ?_)
    refine dx_node (n := i) (by omega) (fun h1 h2 h3 => br_f dc_10 (K1 i (Nat.le_refl _) h h1 h2 h3)) (fun h0 => br_t rfl (nm_r (nI_1 i) ?_))
    refine ih (i + 1) (by omega) (by omega) (fun j h1 => K1 j (by omega)) (fun h1 => K2 (fun j h2 h3 => ?_))
    by_cases ej : j = i
    · subst ej; exact h0
    · exact h1 j (by omega) h3
theorem dx_search' {post : Int32 → Prop} {k a b : Int32} {i e : Nat} (he : e ≤ 1024) (hi : i ≤ e) (K1 : ∀ j, i ≤ j → j < e → N.1 j = k → N.2.1 j = a → N.2.2.1 j = b → post (nI j)) (K2 : (∀ j, i ≤ j → j < e → ¬ (N.1 j = k ∧ N.2.1 j = a ∧ N.2.2.1 j = b)) → post (-1)) : wpX_search post (dc_X fa fl fc ml mb lc pr ob im kf N tr lf lr la lb ld lx lab bp bo nd Q O pl) k a b (nI i) (nI e) :=
  ⟨e - i + 1, dx_search he _ i hi (by omega) K1 K2⟩
end
end
section
/-! formulas -/
def dc_Vn (fc : Nat) (N : dc_N) (n : Nat) : Prop := n < fc ∨ (32 ≤ n ∧ n < N.2.2.2)
def dc_V (fc : Nat) (N : dc_N) (f : Int32) : Prop := ∃ n : Nat, f = nI n ∧ dc_Vn fc N n
def dc_I (fc : Nat) (N : dc_N) (k f a b : Int32) : Prop := ∃ n : Nat, f = nI n ∧ dc_Vn fc N n ∧ N.1 n = k ∧ N.2.1 n = a ∧ N.2.2.1 n = b
def dc_NW (fa fc : Nat) (N : dc_N) : Prop :=
  fa < fc ∧ fc ≤ 32 ∧ 32 ≤ N.2.2.2 ∧ N.2.2.2 ≤ 1024 ∧
  (∀ n, n < fa → N.1 n = 0 ∧ N.2.1 n = -1 ∧ N.2.2.1 n = -1) ∧ (N.1 fa = 1 ∧ N.2.1 fa = -1 ∧ N.2.2.1 fa = -1) ∧
  (∀ n, fa < n → dc_Vn fc N n → (N.1 n = 2 ∨ N.1 n = 3) ∧ ∃ l r : Nat, N.2.1 n = nI l ∧ N.2.2.1 n = nI r ∧ l < n ∧ r < n ∧ dc_Vn fc N l ∧ dc_Vn fc N r)
def dc_NU (fc : Nat) (N : dc_N) : Prop := ∀ n m, dc_Vn fc N n → dc_Vn fc N m → N.1 n = 2 → N.1 m = 2 → N.2.1 n = N.2.1 m → N.2.2.1 n = N.2.2.1 m → n = m
def dc_NE (fc fc' : Nat) (N N' : dc_N) : Prop := fc ≤ fc' ∧ N.2.2.2 ≤ N'.2.2.2 ∧ ∀ n, dc_Vn fc N n → N'.1 n = N.1 n ∧ N'.2.1 n = N.2.1 n ∧ N'.2.2.1 n = N.2.2.1 n
theorem dc_NE_r {fc : Nat} {N : dc_N} : dc_NE fc fc N N := ⟨Nat.le_refl _, Nat.le_refl _, fun _ _ => ⟨rfl, rfl, rfl⟩⟩
theorem dc_Vn_m {fc fc' : Nat} {N N' : dc_N} (h : dc_NE fc fc' N N') {n : Nat} (v : dc_Vn fc N n) : dc_Vn fc' N' n := by
  have h1 := h.1
  have h2 := h.2.1
  rcases v with v | v
  · exact Or.inl (by omega)
  · exact Or.inr ⟨v.1, by omega⟩
theorem dc_NE_t {fc fc' fc'' : Nat} {N N' N'' : dc_N} (h : dc_NE fc fc' N N') (g : dc_NE fc' fc'' N' N'') : dc_NE fc fc'' N N'' := by
  refine ⟨Nat.le_trans h.1 g.1, Nat.le_trans h.2.1 g.2.1, fun n v => ?_⟩
  obtain ⟨a, b, c⟩ := h.2.2 n v
  obtain ⟨a', b', c'⟩ := g.2.2 n (dc_Vn_m h v)
  exact ⟨a'.trans a, b'.trans b, c'.trans c⟩
theorem dc_V_m {fc fc' : Nat} {N N' : dc_N} (h : dc_NE fc fc' N N') {f : Int32} (v : dc_V fc N f) : dc_V fc' N' f := by
  obtain ⟨n, e, v⟩ := v
  exact ⟨n, e, dc_Vn_m h v⟩
theorem dc_I_m {fc fc' : Nat} {N N' : dc_N} (h : dc_NE fc fc' N N') {k f a b : Int32} (v : dc_I fc N k f a b) : dc_I fc' N' k f a b := by
  obtain ⟨n, e, v, h1, h2, h3⟩ := v
  obtain ⟨a, b, c⟩ := h.2.2 n v
  exact ⟨n, e, dc_Vn_m h v, a.trans h1, b.trans h2, c.trans h3⟩
theorem dc_I_V {fc : Nat} {N : dc_N} {k f a b : Int32} (v : dc_I fc N k f a b) : dc_V fc N f := by
  obtain ⟨n, e, v, _⟩ := v
  exact ⟨n, e, v⟩
theorem dc_Vn_lt {fa fc : Nat} {N : dc_N} (h : dc_NW fa fc N) {n : Nat} (v : dc_Vn fc N n) : n < 1024 := by
  have h1 := h.2.1
  have h2 := h.2.2.2.1
  rcases v with v | v <;> omega
theorem dc_V_in {fa fc : Nat} {N : dc_N} (h : dc_NW fa fc N) {f : Int32} (v : dc_V fc N f) : vp_in f 1024 := by
  obtain ⟨n, rfl, v⟩ := v
  exact vp_in_nI (dc_Vn_lt h v) (by omega)
theorem dc_I_ch {fa fc : Nat} {N : dc_N} (h : dc_NW fa fc N) {k f a b : Int32} (hk : k = 2 ∨ k = 3) (v : dc_I fc N k f a b) : dc_V fc N a ∧ dc_V fc N b := by
  obtain ⟨n, e, v, h1, h2, h3⟩ := v
  have hn : fa < n := by
    rcases Nat.lt_trichotomy n fa with q | q | q
    · have := (h.2.2.2.2.1 n q).1
      rw [this] at h1
      rcases hk with rfl | rfl <;> exact absurd h1 (by decide)
    · subst q
      have := h.2.2.2.2.2.1.1
      rw [this] at h1
      rcases hk with rfl | rfl <;> exact absurd h1 (by decide)
    · exact q
  obtain ⟨_, l, r, el, er, _, _, vl, vr⟩ := h.2.2.2.2.2.2 n hn v
  exact ⟨⟨l, h2.symm.trans el, vl⟩, ⟨r, h3.symm.trans er, vr⟩⟩
theorem dc_I_u {fa fc : Nat} {N : dc_N} (h : dc_NW fa fc N) (u : dc_NU fc N) {f g a b : Int32} (v : dc_I fc N 2 f a b) (w : dc_I fc N 2 g a b) : f = g := by
  obtain ⟨n, rfl, v, h1, h2, h3⟩ := v
  obtain ⟨m, rfl, w, g1, g2, g3⟩ := w
  exact congrArg nI (u n m v w h1 g1 (h2.trans g2.symm) (h3.trans g3.symm))
def dc_AX (fc : Nat) (N : dc_N) (fal t f : Int32) : Prop :=
  (t = 4 ∧ ∃ a g h : Int32, dc_I fc N 2 f a g ∧ dc_I fc N 2 g h a) ∨
  (t = 5 ∧ ∃ p q a bc b c u v : Int32, dc_I fc N 2 f p q ∧ dc_I fc N 2 p a bc ∧ dc_I fc N 2 bc b c ∧ dc_I fc N 2 q u v ∧ dc_I fc N 2 u a b ∧ dc_I fc N 2 v a c) ∨
  (t = 6 ∧ ∃ tw g ng : Int32, dc_I fc N 2 f tw g ∧ dc_I fc N 2 tw ng fal ∧ dc_I fc N 2 ng g fal) ∨
  (t = 7 ∧ ∃ c l r : Int32, dc_I fc N 2 f c l ∧ dc_I fc N 3 c l r) ∨
  (t = 8 ∧ ∃ c l r : Int32, dc_I fc N 2 f c r ∧ dc_I fc N 3 c l r) ∨
  (t = 9 ∧ ∃ a g b c : Int32, dc_I fc N 2 f a g ∧ dc_I fc N 2 g b c ∧ dc_I fc N 3 c a b)
theorem dc_AX_m {fc fc' : Nat} {N N' : dc_N} (h : dc_NE fc fc' N N') {fal t f : Int32} (v : dc_AX fc N fal t f) : dc_AX fc' N' fal t f := by
  rcases v with ⟨e, a, g, x, i1, i2⟩ | ⟨e, p, q, a, bc, b, c, u, v, i1, i2, i3, i4, i5, i6⟩ | ⟨e, tw, g, ng, i1, i2, i3⟩ | ⟨e, c, l, r, i1, i2⟩ | ⟨e, c, l, r, i1, i2⟩ | ⟨e, a, g, b, c, i1, i2, i3⟩
  · exact Or.inl ⟨e, a, g, x, dc_I_m h i1, dc_I_m h i2⟩
  · exact Or.inr (Or.inl ⟨e, p, q, a, bc, b, c, u, v, dc_I_m h i1, dc_I_m h i2, dc_I_m h i3, dc_I_m h i4, dc_I_m h i5, dc_I_m h i6⟩)
  · exact Or.inr (Or.inr (Or.inl ⟨e, tw, g, ng, dc_I_m h i1, dc_I_m h i2, dc_I_m h i3⟩))
  · exact Or.inr (Or.inr (Or.inr (Or.inl ⟨e, c, l, r, dc_I_m h i1, dc_I_m h i2⟩)))
  · exact Or.inr (Or.inr (Or.inr (Or.inr (Or.inl ⟨e, c, l, r, dc_I_m h i1, dc_I_m h i2⟩))))
  · exact Or.inr (Or.inr (Or.inr (Or.inr (Or.inr ⟨e, a, g, b, c, dc_I_m h i1, dc_I_m h i2, dc_I_m h i3⟩))))
theorem dc_AX_V {fc : Nat} {N : dc_N} {fal t f : Int32} (v : dc_AX fc N fal t f) : dc_V fc N f := by
  rcases v with ⟨e, a, g, x, i1, i2⟩ | ⟨e, p, q, a, bc, b, c, u, v, i1, i2, i3, i4, i5, i6⟩ | ⟨e, tw, g, ng, i1, i2, i3⟩ | ⟨e, c, l, r, i1, i2⟩ | ⟨e, c, l, r, i1, i2⟩ | ⟨e, a, g, b, c, i1, i2, i3⟩ <;> exact dc_I_V i1
theorem dc_AX_t {fc : Nat} {N : dc_N} {fal t f : Int32} (v : dc_AX fc N fal t f) : ¬ t = 0 ∧ ¬ t = 1 ∧ ¬ t = 2 ∧ ¬ t = 3 := by
  rcases v with ⟨e, _⟩ | ⟨e, _⟩ | ⟨e, _⟩ | ⟨e, _⟩ | ⟨e, _⟩ | ⟨e, _⟩ <;> subst e <;> decide
/-! powers of three -/
def dc_p : Nat → Nat
  | 0 => 1
  | d + 1 => 3 * dc_p d
theorem dc_p_s (d : Nat) : dc_p (d + 1) = 3 * dc_p d := rfl
theorem dc_p_pos (d : Nat) : 1 ≤ dc_p d := by
  induction d with
  | zero => exact Nat.le_refl _
  | succ d ih => rw [dc_p_s]; omega
theorem dc_p_le {a b : Nat} (h : a ≤ b) : dc_p a ≤ dc_p b := by
  induction b with
  | zero => have : a = 0 := by omega
            subst this; exact Nat.le_refl _
  | succ b ih =>
    by_cases e : a = b + 1
    · subst e; exact Nat.le_refl _
    · have := ih (by omega)
      rw [dc_p_s]; omega
/-! boxes -/
def dc_D (ld : Nat → Int32) (x : Int32) : Nat := if x = -1 then 0 else (ld x.toNatClampNeg).toNatClampNeg
def dc_BF (fc : Nat) (lf ld bp : Nat → Int32) (B : Int32 → Prop) : Prop :=
  B (-1) ∧ ∀ x, B x → x = -1 ∨ ∃ n d h : Nat, n < 32 ∧ x = nI n ∧ ld n = nI (d + 1) ∧ d < 3 ∧ B (bp n) ∧ dc_D ld (bp n) = d ∧ h < fc ∧ lf n = nI h
def dc_an (bp : Nat → Int32) : Nat → Int32 → Int32 → Prop
  | 0, a, b => a = b
  | k + 1, a, b => a = b ∨ (¬ b = -1 ∧ dc_an bp k a (bp b.toNatClampNeg))
def dc_AN (ld bp : Nat → Int32) (a b : Int32) : Prop := dc_an bp (dc_D ld b) a b
theorem dc_D_m (ld : Nat → Int32) : dc_D ld (-1) = 0 := if_pos rfl
theorem dc_D_n {ld : Nat → Int32} {n d : Nat} (hn : n < 32) (h : ld n = nI d) (hd : d < 32) : dc_D ld (nI n) = d := by
  unfold dc_D
  rw [if_neg (dc_ne1 (by omega)), nI_clamp (by omega), h, nI_clamp (by omega)]
section
variable {fc : Nat} {lf ld bp : Nat → Int32} {B : Int32 → Prop}
theorem dc_AN_r (a : Int32) : dc_AN ld bp a a := by
  unfold dc_AN
  cases dc_D ld a with
  | zero => exact rfl
  | succ d => exact Or.inl rfl
/-- a box, not the outermost -/
theorem dc_B_n (F : dc_BF fc lf ld bp B) {x : Int32} (h : B x) (h1 : ¬ x = -1) : ∃ n d h : Nat, n < 32 ∧ x = nI n ∧ ld n = nI (d + 1) ∧ d < 3 ∧ B (bp n) ∧ dc_D ld (bp n) = d ∧ h < fc ∧ lf n = nI h ∧ dc_D ld x = d + 1 := by
  obtain ⟨n, d, h, a1, a2, a3, a4, a5, a6, a7, a8⟩ := (F.2 x h).resolve_left h1
  refine ⟨n, d, h, a1, a2, a3, a4, a5, a6, a7, a8, ?_⟩
  rw [a2]
  exact dc_D_n a1 a3 (by omega)
theorem dc_B_up (F : dc_BF fc lf ld bp B) {x : Int32} (h : B x) (h1 : ¬ x = -1) : B (bp x.toNatClampNeg) ∧ dc_D ld x = dc_D ld (bp x.toNatClampNeg) + 1 ∧ dc_D ld x ≤ 3 ∧ vp_in x 32 := by
  obtain ⟨n, d, h, a1, a2, a3, a4, a5, a6, a7, a8, a9⟩ := dc_B_n F h h1
  subst a2
  rw [nI_clamp (by omega)]
  exact ⟨a5, by omega, by omega, vp_in_nI a1 (by omega)⟩
theorem dc_B_0 (F : dc_BF fc lf ld bp B) {x : Int32} (h : B x) (h0 : dc_D ld x = 0) : x = -1 := by
  by_cases h1 : x = -1
  · exact h1
  · have := (dc_B_up F h h1).2.1
    omega
theorem dc_AN_up (F : dc_BF fc lf ld bp B) {a x : Int32} (h : B x) (h1 : ¬ x = -1) : dc_AN ld bp a x ↔ (a = x ∨ dc_AN ld bp a (bp x.toNatClampNeg)) := by
  have e := (dc_B_up F h h1).2.1
  unfold dc_AN
  rw [e]
  show (a = x ∨ (¬ x = -1 ∧ _)) ↔ _
  constructor
  · rintro (q | q)
    · exact Or.inl q
    · exact Or.inr q.2
  · rintro (q | q)
    · exact Or.inl q
    · exact Or.inr ⟨h1, q⟩
theorem dc_AN_m {a : Int32} (h : dc_AN ld bp a (-1)) : a = -1 := by
  unfold dc_AN at h
  rw [dc_D_m] at h
  exact h
theorem dc_AN_B (F : dc_BF fc lf ld bp B) {a : Int32} : ∀ (d : Nat) (x : Int32), dc_D ld x = d → B x → dc_AN ld bp a x → B a ∧ dc_D ld a ≤ dc_D ld x := by
  intro d
  induction d with
  | zero =>
    intro x hd hB h
    have := dc_B_0 F hB hd
    subst this
    have := dc_AN_m h
    subst this
    exact ⟨hB, Nat.le_refl _⟩
  | succ d ih =>
    intro x hd hB h
    have h1 : ¬ x = -1 := by
      intro e; subst e; rw [dc_D_m] at hd; omega
    obtain ⟨u1, u2, u3, u4⟩ := dc_B_up F hB h1
    rcases (dc_AN_up F hB h1).mp h with q | q
    · subst q; exact ⟨hB, Nat.le_refl _⟩
    · obtain ⟨g1, g2⟩ := ih _ (by omega) u1 q
      exact ⟨g1, by omega⟩
theorem dc_AN_B' (F : dc_BF fc lf ld bp B) {a x : Int32} (hB : B x) (h : dc_AN ld bp a x) : B a ∧ dc_D ld a ≤ dc_D ld x := dc_AN_B F _ x rfl hB h
/-- an ancestor other than the box itself: of the parent -/
theorem dc_AN_s (F : dc_BF fc lf ld bp B) {a x : Int32} (hB : B x) (h : dc_AN ld bp a x) (hn : ¬ a = x) : ¬ x = -1 ∧ dc_AN ld bp a (bp x.toNatClampNeg) ∧ dc_D ld a < dc_D ld x := by
  have h1 : ¬ x = -1 := by
    intro e; subst e; exact hn (dc_AN_m h)
  obtain ⟨u1, u2, u3, u4⟩ := dc_B_up F hB h1
  have q := ((dc_AN_up F hB h1).mp h).resolve_left hn
  exact ⟨h1, q, by have := (dc_AN_B' F u1 q).2; omega⟩
end
end
section
/-! lines of a proof that is being compiled -/
def dc_LW (fa fc : Nat) (lf ld bp : Nat → Int32) (B : Int32 → Prop) (L : Nat) (N : dc_N) (O : dc_O) (k : Nat) : Prop :=
  B (O.2.2.2.2.1 k) ∧ dc_D ld (O.2.2.2.2.1 k) ≤ L ∧ dc_V fc N (O.2.1 k) ∧
  ((O.1 k = 0 ∧ ¬ O.2.2.2.2.1 k = -1 ∧ O.2.1 k = lf (O.2.2.2.2.1 k).toNatClampNeg) ∨
   (O.1 k = 1 ∧ O.2.2.2.2.1 k = -1 ∧ ∃ p : Nat, p < 8 ∧ O.2.2.1 k = nI p) ∨
   (O.1 k = 2 ∧ ∃ i j : Nat, i < k ∧ j < k ∧ O.2.2.1 k = nI i ∧ O.2.2.2.1 k = nI j ∧ dc_AN ld bp (O.2.2.2.2.1 i) (O.2.2.2.2.1 k) ∧ dc_AN ld bp (O.2.2.2.2.1 j) (O.2.2.2.2.1 k) ∧ dc_I fc N 2 (O.2.1 i) (O.2.1 j) (O.2.1 k)) ∨
   (O.1 k = 3 ∧ ∃ i : Nat, i < k ∧ O.2.2.1 k = nI i ∧ ¬ O.2.2.2.2.1 i = O.2.2.2.2.1 k ∧ ((dc_AN ld bp (O.2.2.2.2.1 i) (O.2.2.2.2.1 k) ∧ O.2.1 i = O.2.1 k) ∨ (¬ O.2.2.2.2.1 i = -1 ∧ bp (O.2.2.2.2.1 i).toNatClampNeg = O.2.2.2.2.1 k ∧ dc_I fc N 2 (O.2.1 k) (lf (O.2.2.2.2.1 i).toNatClampNeg) (O.2.1 i)))) ∨
   dc_AX fc N (nI fa) (O.1 k) (O.2.1 k))
def dc_w (ld : Nat → Int32) (O : dc_O) (k : Nat) : Nat :=
  if O.1 k = 0 then 5 * dc_p (dc_D ld (O.2.2.2.2.1 k) - 1)
  else if O.1 k = 2 then dc_p (dc_D ld (O.2.2.2.2.1 k)) + (dc_p (dc_D ld (O.2.2.2.2.1 k)) - dc_p (dc_D ld (O.2.2.2.2.1 (O.2.2.1 k).toNatClampNeg))) + (dc_p (dc_D ld (O.2.2.2.2.1 k)) - dc_p (dc_D ld (O.2.2.2.2.1 (O.2.2.2.1 k).toNatClampNeg)))
  else if O.1 k = 3 then (dc_p (dc_D ld (O.2.2.2.2.1 k)) - dc_p (dc_D ld (O.2.2.2.2.1 (O.2.2.1 k).toNatClampNeg))) + 1
  else dc_p (dc_D ld (O.2.2.2.2.1 k))
theorem dc_w_0 {ld : Nat → Int32} {O : dc_O} {k : Nat} (h : O.1 k = 0) : dc_w ld O k = 5 * dc_p (dc_D ld (O.2.2.2.2.1 k) - 1) := if_pos h
theorem dc_w_2 {ld : Nat → Int32} {O : dc_O} {k : Nat} (h : O.1 k = 2) : dc_w ld O k = dc_p (dc_D ld (O.2.2.2.2.1 k)) + (dc_p (dc_D ld (O.2.2.2.2.1 k)) - dc_p (dc_D ld (O.2.2.2.2.1 (O.2.2.1 k).toNatClampNeg))) + (dc_p (dc_D ld (O.2.2.2.2.1 k)) - dc_p (dc_D ld (O.2.2.2.2.1 (O.2.2.2.1 k).toNatClampNeg))) := by
  unfold dc_w
  rw [if_neg (by rw [h]; decide), if_pos h]
theorem dc_w_3 {ld : Nat → Int32} {O : dc_O} {k : Nat} (h : O.1 k = 3) : dc_w ld O k = (dc_p (dc_D ld (O.2.2.2.2.1 k)) - dc_p (dc_D ld (O.2.2.2.2.1 (O.2.2.1 k).toNatClampNeg))) + 1 := by
  unfold dc_w
  rw [if_neg (by rw [h]; decide), if_neg (by rw [h]; decide), if_pos h]
theorem dc_w_o {ld : Nat → Int32} {O : dc_O} {k : Nat} (h0 : ¬ O.1 k = 0) (h2 : ¬ O.1 k = 2) (h3 : ¬ O.1 k = 3) : dc_w ld O k = dc_p (dc_D ld (O.2.2.2.2.1 k)) := by
  unfold dc_w
  rw [if_neg h0, if_neg h2, if_neg h3]
theorem dc_w_1 {ld : Nat → Int32} {O : dc_O} {k : Nat} (h : O.1 k = 1) : dc_w ld O k = dc_p (dc_D ld (O.2.2.2.2.1 k)) :=
  dc_w_o (by rw [h]; decide) (by rw [h]; decide) (by rw [h]; decide)
def dc_OK (fa fc : Nat) (lf ld bp : Nat → Int32) (B : Int32 → Prop) (L : Nat) (N : dc_N) (O : dc_O) (S : Nat) : Prop :=
  (∀ k, k < O.2.2.2.2.2 → dc_LW fa fc lf ld bp B L N O k) ∧ dc_sm (dc_w ld O) O.2.2.2.2.2 ≤ S
def dc_OE (O O' : dc_O) : Prop := O.2.2.2.2.2 ≤ O'.2.2.2.2.2 ∧ ∀ k, k < O.2.2.2.2.2 → O'.1 k = O.1 k ∧ O'.2.1 k = O.2.1 k ∧ O'.2.2.1 k = O.2.2.1 k ∧ O'.2.2.2.1 k = O.2.2.2.1 k ∧ O'.2.2.2.2.1 k = O.2.2.2.2.1 k
def dc_push (O : dc_O) (t f a b x : Int32) : dc_O := (upd O.1 O.2.2.2.2.2 t, upd O.2.1 O.2.2.2.2.2 f, upd O.2.2.1 O.2.2.2.2.2 a, upd O.2.2.2.1 O.2.2.2.2.2 b, upd O.2.2.2.2.1 O.2.2.2.2.2 x, O.2.2.2.2.2 + 1)
theorem dc_OE_r {O : dc_O} : dc_OE O O := ⟨Nat.le_refl _, fun _ _ => ⟨rfl, rfl, rfl, rfl, rfl⟩⟩
theorem dc_OE_t {O O' O'' : dc_O} (h : dc_OE O O') (g : dc_OE O' O'') : dc_OE O O'' := by
  refine ⟨Nat.le_trans h.1 g.1, fun k hk => ?_⟩
  obtain ⟨a, b, c, d, e⟩ := h.2 k hk
  obtain ⟨a', b', c', d', e'⟩ := g.2 k (Nat.lt_of_lt_of_le hk h.1)
  exact ⟨a'.trans a, b'.trans b, c'.trans c, d'.trans d, e'.trans e⟩
theorem dc_OE_p {O : dc_O} {t f a b x : Int32} : dc_OE O (dc_push O t f a b x) :=
  ⟨Nat.le_succ _, fun k hk => ⟨pk_un (by omega), pk_un (by omega), pk_un (by omega), pk_un (by omega), pk_un (by omega)⟩⟩
theorem dc_p_at {O : dc_O} {t f a b x : Int32} : (dc_push O t f a b x).1 O.2.2.2.2.2 = t ∧ (dc_push O t f a b x).2.1 O.2.2.2.2.2 = f ∧ (dc_push O t f a b x).2.2.1 O.2.2.2.2.2 = a ∧ (dc_push O t f a b x).2.2.2.1 O.2.2.2.2.2 = b ∧ (dc_push O t f a b x).2.2.2.2.1 O.2.2.2.2.2 = x ∧ (dc_push O t f a b x).2.2.2.2.2 = O.2.2.2.2.2 + 1 :=
  ⟨pk_us, pk_us, pk_us, pk_us, pk_us, rfl⟩
section
variable {fa fc L S : Nat} {lf ld bp : Nat → Int32} {B : Int32 → Prop} {N N' : dc_N} {O O' : dc_O}
theorem dc_LW_m {k : Nat} (hN : dc_NE fc fc N N') (hO : dc_OE O O') (hk : k < O.2.2.2.2.2) (h : dc_LW fa fc lf ld bp B L N O k) : dc_LW fa fc lf ld bp B L N' O' k := by
  obtain ⟨e1, e2, e3, e4, e5⟩ := hO.2 k hk
  unfold dc_LW at h ⊢
  rw [e1, e2, e3, e4, e5]
  refine ⟨h.1, h.2.1, dc_V_m hN h.2.2.1, ?_⟩
  rcases h.2.2.2 with h | h | ⟨h0, i, j, hi, hj, ei, ej, h1, h2, h3⟩ | ⟨h0, i, hi, ei, h1, h2⟩ | h
  · exact Or.inl h
  · exact Or.inr (Or.inl h)
  · refine Or.inr (Or.inr (Or.inl ⟨h0, i, j, hi, hj, ei, ej, ?_⟩))
    obtain ⟨_, f2, _, _, f5⟩ := hO.2 i (by omega)
    obtain ⟨_, g2, _, _, g5⟩ := hO.2 j (by omega)
    rw [f5, g5, f2, g2]
    exact ⟨h1, h2, dc_I_m hN h3⟩
  · refine Or.inr (Or.inr (Or.inr (Or.inl ⟨h0, i, hi, ei, ?_⟩)))
    obtain ⟨_, f2, _, _, f5⟩ := hO.2 i (by omega)
    rw [f5, f2]
    refine ⟨h1, ?_⟩
    rcases h2 with h2 | ⟨h2, h3, h4⟩
    · exact Or.inl h2
    · exact Or.inr ⟨h2, h3, dc_I_m hN h4⟩
  · exact Or.inr (Or.inr (Or.inr (Or.inr (dc_AX_m hN h))))
theorem dc_w_m {k : Nat} (hc : O.2.2.2.2.2 ≤ 256) (hO : dc_OE O O') (hk : k < O.2.2.2.2.2) (h : dc_LW fa fc lf ld bp B L N O k) : dc_w ld O' k = dc_w ld O k := by
  obtain ⟨e1, e2, e3, e4, e5⟩ := hO.2 k hk
  rcases h.2.2.2 with h | h | ⟨h0, i, j, hi, hj, ei, ej, h1, h2, h3⟩ | ⟨h0, i, hi, ei, h1, h2⟩ | h
  · rw [dc_w_0 h.1, dc_w_0 (e1.trans h.1), e5]
  · rw [dc_w_1 h.1, dc_w_1 (e1.trans h.1), e5]
  · obtain ⟨_, f2, _, _, f5⟩ := hO.2 i (by omega)
    obtain ⟨_, g2, _, _, g5⟩ := hO.2 j (by omega)
    rw [dc_w_2 h0, dc_w_2 (e1.trans h0), e3, e4, e5, ei, ej, nI_clamp (by omega), nI_clamp (by omega), f5, g5]
  · obtain ⟨_, f2, _, _, f5⟩ := hO.2 i (by omega)
    rw [dc_w_3 h0, dc_w_3 (e1.trans h0), e3, e5, ei, nI_clamp (by omega), f5]
  · obtain ⟨t0, t1, t2, t3⟩ := dc_AX_t h
    rw [dc_w_o t0 t2 t3, dc_w_o (by rw [e1]; exact t0) (by rw [e1]; exact t2) (by rw [e1]; exact t3), e5]
theorem dc_w_pos (k : Nat) : 1 ≤ dc_w ld O k := by
  unfold dc_w
  have h1 := dc_p_pos (dc_D ld (O.2.2.2.2.1 k))
  have h2 := dc_p_pos (dc_D ld (O.2.2.2.2.1 k) - 1)
  split
  · omega
  · split
    · omega
    · split <;> omega
theorem dc_OK_ct (h : dc_OK fa fc lf ld bp B L N O S) : O.2.2.2.2.2 ≤ S := Nat.le_trans (dc_sm_ge (fun k _ => dc_w_pos k)) h.2
theorem dc_OK_N (hN : dc_NE fc fc N N') (h : dc_OK fa fc lf ld bp B L N O S) : dc_OK fa fc lf ld bp B L N' O S :=
  ⟨fun k hk => dc_LW_m hN dc_OE_r hk (h.1 k hk), h.2⟩
theorem dc_OK_p {t f a b x : Int32} {w0 : Nat} (hc : O.2.2.2.2.2 ≤ 256) (h : dc_OK fa fc lf ld bp B L N O S) (hl : dc_LW fa fc lf ld bp B L N (dc_push O t f a b x) O.2.2.2.2.2) (hw : dc_w ld (dc_push O t f a b x) O.2.2.2.2.2 ≤ w0) : dc_OK fa fc lf ld bp B L N (dc_push O t f a b x) (S + w0) := by
  refine ⟨fun k hk => ?_, ?_⟩
  · by_cases e : k = O.2.2.2.2.2
    · subst e; exact hl
    · have hk' : k < O.2.2.2.2.2 + 1 := hk
      have : k < O.2.2.2.2.2 := by omega
      exact dc_LW_m dc_NE_r dc_OE_p this (h.1 k this)
  · show dc_sm (dc_w ld (dc_push O t f a b x)) O.2.2.2.2.2 + _ ≤ _
    rw [dc_sm_eq (v := dc_w ld O) (fun k hk => dc_w_m hc dc_OE_p hk (h.1 k hk))]
    have := h.2
    omega
theorem dc_OK_mod {f x : Int32} {i j : Nat} (hc : O.2.2.2.2.2 ≤ 256) (h : dc_OK fa fc lf ld bp B L N O S) (hB : B x) (hL : dc_D ld x ≤ L) (hf : dc_V fc N f) (hi : i < O.2.2.2.2.2) (hj : j < O.2.2.2.2.2) (ai : dc_AN ld bp (O.2.2.2.2.1 i) x) (aj : dc_AN ld bp (O.2.2.2.2.1 j) x) (hI : dc_I fc N 2 (O.2.1 i) (O.2.1 j) f) : dc_OK fa fc lf ld bp B L N (dc_push O 2 f (nI i) (nI j) x) (S + (dc_p (dc_D ld x) + (dc_p (dc_D ld x) - dc_p (dc_D ld (O.2.2.2.2.1 i))) + (dc_p (dc_D ld x) - dc_p (dc_D ld (O.2.2.2.2.1 j))))) := by
  obtain ⟨e1, e2, e3, e4, e5, e6⟩ := dc_p_at (O := O) (t := 2) (f := f) (a := nI i) (b := nI j) (x := x)
  obtain ⟨_, f2, _, _, f5⟩ := (dc_OE_p (O := O) (t := 2) (f := f) (a := nI i) (b := nI j) (x := x)).2 i hi
  obtain ⟨_, g2, _, _, g5⟩ := (dc_OE_p (O := O) (t := 2) (f := f) (a := nI i) (b := nI j) (x := x)).2 j hj
  refine dc_OK_p hc h ?_ ?_
  · unfold dc_LW
    rw [e1, e2, e3, e4, e5]
    refine ⟨hB, hL, hf, Or.inr (Or.inr (Or.inl ⟨rfl, i, j, hi, hj, rfl, rfl, ?_⟩))⟩
    rw [f5, g5, f2, g2]
    exact ⟨ai, aj, hI⟩
  · rw [dc_w_2 e1, e3, e4, e5, nI_clamp (by omega), nI_clamp (by omega), f5, g5]
    exact Nat.le_refl _
theorem dc_OK_ax {t f a b x : Int32} (hc : O.2.2.2.2.2 ≤ 256) (h : dc_OK fa fc lf ld bp B L N O S) (hB : B x) (hL : dc_D ld x ≤ L) (hA : dc_AX fc N (nI fa) t f) : dc_OK fa fc lf ld bp B L N (dc_push O t f a b x) (S + dc_p (dc_D ld x)) := by
  obtain ⟨e1, e2, e3, e4, e5, e6⟩ := dc_p_at (O := O) (t := t) (f := f) (a := a) (b := b) (x := x)
  refine dc_OK_p hc h ?_ ?_
  · unfold dc_LW
    rw [e1, e2, e3, e4, e5]
    exact ⟨hB, hL, dc_AX_V hA, Or.inr (Or.inr (Or.inr (Or.inr hA)))⟩
  · obtain ⟨t0, t1, t2, t3⟩ := dc_AX_t hA
    rw [dc_w_o (by rw [e1]; exact t0) (by rw [e1]; exact t2) (by rw [e1]; exact t3), e5]
    exact Nat.le_refl _
theorem dc_OK_hyp {f a b x : Int32} (hc : O.2.2.2.2.2 ≤ 256) (h : dc_OK fa fc lf ld bp B L N O S) (hB : B x) (hL : dc_D ld x ≤ L) (h1 : ¬ x = -1) (hf : dc_V fc N f) (e : f = lf x.toNatClampNeg) : dc_OK fa fc lf ld bp B L N (dc_push O 0 f a b x) (S + 5 * dc_p (dc_D ld x - 1)) := by
  obtain ⟨e1, e2, e3, e4, e5, e6⟩ := dc_p_at (O := O) (t := 0) (f := f) (a := a) (b := b) (x := x)
  refine dc_OK_p hc h ?_ ?_
  · unfold dc_LW
    rw [e1, e2, e3, e4, e5]
    exact ⟨hB, hL, hf, Or.inl ⟨rfl, h1, e⟩⟩
  · rw [dc_w_0 e1, e5]
    exact Nat.le_refl _
theorem dc_OK_prem {f b : Int32} {p : Nat} (hc : O.2.2.2.2.2 ≤ 256) (h : dc_OK fa fc lf ld bp B L N O S) (hB : B (-1)) (hf : dc_V fc N f) (hp : p < 8) : dc_OK fa fc lf ld bp B L N (dc_push O 1 f (nI p) b (-1)) (S + 1) := by
  obtain ⟨e1, e2, e3, e4, e5, e6⟩ := dc_p_at (O := O) (t := 1) (f := f) (a := nI p) (b := b) (x := -1)
  refine dc_OK_p hc h ?_ ?_
  · unfold dc_LW
    rw [e1, e2, e3, e4, e5, dc_D_m]
    exact ⟨hB, Nat.zero_le _, hf, Or.inr (Or.inl ⟨rfl, rfl, p, hp, rfl⟩)⟩
  · rw [dc_w_1 e1, e5, dc_D_m]
    exact Nat.le_refl _
theorem dc_OK_link {f b x : Int32} {i : Nat} (hc : O.2.2.2.2.2 ≤ 256) (h : dc_OK fa fc lf ld bp B L N O S) (hB : B x) (hL : dc_D ld x ≤ L) (hf : dc_V fc N f) (hi : i < O.2.2.2.2.2) (hn : ¬ O.2.2.2.2.1 i = x) (hh : (dc_AN ld bp (O.2.2.2.2.1 i) x ∧ O.2.1 i = f) ∨ (¬ O.2.2.2.2.1 i = -1 ∧ bp (O.2.2.2.2.1 i).toNatClampNeg = x ∧ dc_I fc N 2 f (lf (O.2.2.2.2.1 i).toNatClampNeg) (O.2.1 i))) : dc_OK fa fc lf ld bp B L N (dc_push O 3 f (nI i) b x) (S + ((dc_p (dc_D ld x) - dc_p (dc_D ld (O.2.2.2.2.1 i))) + 1)) := by
  obtain ⟨e1, e2, e3, e4, e5, e6⟩ := dc_p_at (O := O) (t := 3) (f := f) (a := nI i) (b := b) (x := x)
  obtain ⟨_, f2, _, _, f5⟩ := (dc_OE_p (O := O) (t := 3) (f := f) (a := nI i) (b := b) (x := x)).2 i hi
  refine dc_OK_p hc h ?_ ?_
  · unfold dc_LW
    rw [e1, e2, e3, e4, e5]
    refine ⟨hB, hL, hf, Or.inr (Or.inr (Or.inr (Or.inl ⟨rfl, i, hi, rfl, ?_⟩)))⟩
    rw [f5, f2]
    exact ⟨hn, hh⟩
  · rw [dc_w_3 e1, e3, e5, nI_clamp (by omega), f5]
    exact Nat.le_refl _
end
end
section
/-! nodes: the extension by one -/
def dc_NG (fa fc : Nat) (N : dc_N) : Prop := dc_NW fa fc N ∧ dc_NU fc N
theorem dc_ext {fa fc : Nat} {N : dc_N} {x y : Int32} (h : dc_NG fa fc N) (hx : dc_V fc N x) (hy : dc_V fc N y) (ht : N.2.2.2 < 1024)
    (h1 : ∀ j, 0 ≤ j → j < fc → ¬ (N.1 j = 2 ∧ N.2.1 j = x ∧ N.2.2.1 j = y)) (h2 : ∀ j, 32 ≤ j → j < N.2.2.2 → ¬ (N.1 j = 2 ∧ N.2.1 j = x ∧ N.2.2.1 j = y)) :
    dc_NE fc fc N (upd N.1 N.2.2.2 2, upd N.2.1 N.2.2.2 x, upd N.2.2.1 N.2.2.2 y, N.2.2.2 + 1) ∧ dc_NG fa fc (upd N.1 N.2.2.2 2, upd N.2.1 N.2.2.2 x, upd N.2.2.1 N.2.2.2 y, N.2.2.2 + 1) ∧ dc_I fc (upd N.1 N.2.2.2 2, upd N.2.1 N.2.2.2 x, upd N.2.2.1 N.2.2.2 y, N.2.2.2 + 1) 2 (nI N.2.2.2) x y := by
  obtain ⟨⟨w1, w2, w3, w4, w5, w6, w7⟩, u⟩ := h
  have hlt : ∀ n, dc_Vn fc N n → n < N.2.2.2 := by
    intro n v
    rcases v with v | v <;> omega
  have hne : dc_NE fc fc N (upd N.1 N.2.2.2 2, upd N.2.1 N.2.2.2 x, upd N.2.2.1 N.2.2.2 y, N.2.2.2 + 1) := by
    refine ⟨Nat.le_refl _, Nat.le_succ _, fun n v => ?_⟩
    have := hlt n v
    exact ⟨pk_un (by omega), pk_un (by omega), pk_un (by omega)⟩
  have hvi : ∀ n, dc_Vn fc (upd N.1 N.2.2.2 2, upd N.2.1 N.2.2.2 x, upd N.2.2.1 N.2.2.2 y, N.2.2.2 + 1) n → n = N.2.2.2 ∨ dc_Vn fc N n := by
    intro n v
    rcases v with v | v
    · exact Or.inr (Or.inl v)
    · have v2 : n < N.2.2.2 + 1 := v.2
      by_cases e : n = N.2.2.2
      · exact Or.inl e
      · exact Or.inr (Or.inr ⟨v.1, by omega⟩)
  have hno : ∀ n, dc_Vn fc N n → ¬ (N.1 n = 2 ∧ N.2.1 n = x ∧ N.2.2.1 n = y) := by
    intro n v
    rcases v with v | v
    · exact h1 n (Nat.zero_le _) v
    · exact h2 n v.1 v.2
  refine ⟨hne, ⟨⟨w1, w2, Nat.le_succ_of_le w3, ht, ?_, ?_, ?_⟩, ?_⟩, ⟨N.2.2.2, rfl, Or.inr ⟨w3, Nat.lt_succ_self _⟩, pk_us, pk_us, pk_us⟩⟩
  · intro n hn
    obtain ⟨a, b, c⟩ := hne.2.2 n (Or.inl (by omega))
    obtain ⟨a', b', c'⟩ := w5 n hn
    exact ⟨a.trans a', b.trans b', c.trans c'⟩
  · obtain ⟨a, b, c⟩ := hne.2.2 fa (Or.inl w1)
    exact ⟨a.trans w6.1, b.trans w6.2.1, c.trans w6.2.2⟩
  · intro n hn v
    rcases hvi n v with e | v'
    · subst e
      obtain ⟨l, el, vl⟩ := hx
      obtain ⟨r, er, vr⟩ := hy
      refine ⟨Or.inl pk_us, l, r, pk_us.trans el, pk_us.trans er, hlt l vl, hlt r vr, dc_Vn_m hne vl, dc_Vn_m hne vr⟩
    · obtain ⟨a, b, c⟩ := hne.2.2 n v'
      obtain ⟨k, l, r, el, er, ll, lr, vl, vr⟩ := w7 n hn v'
      refine ⟨?_, l, r, b.trans el, c.trans er, ll, lr, dc_Vn_m hne vl, dc_Vn_m hne vr⟩
      rw [a]; exact k
  · intro n m vn vm kn km en em
    rcases hvi n vn with e | vn'
    · rcases hvi m vm with e' | vm'
      · rw [e, e']
      · obtain ⟨a, b, c⟩ := hne.2.2 m vm'
        subst e
        have f1 : N.2.1 m = x := b.symm.trans (en.symm.trans pk_us)
        have f2 : N.2.2.1 m = y := c.symm.trans (em.symm.trans pk_us)
        exact absurd ⟨a.symm.trans km, f1, f2⟩ (hno m vm')
    · obtain ⟨a, b, c⟩ := hne.2.2 n vn'
      rcases hvi m vm with e' | vm'
      · subst e'
        have f1 : N.2.1 n = x := b.symm.trans (en.trans pk_us)
        have f2 : N.2.2.1 n = y := c.symm.trans (em.trans pk_us)
        exact absurd ⟨a.symm.trans kn, f1, f2⟩ (hno n vn')
      · obtain ⟨a', b', c'⟩ := hne.2.2 m vm'
        exact u n m vn' vm' (a.symm.trans kn) (a'.symm.trans km) (b.symm.trans (en.trans b')) (c.symm.trans (em.trans c'))
section
variable {fa fl fc ml mb lc pr ob : Nat} {im kf : Int32} {N : dc_N} {tr lf lr la lb ld lx lab bp bo nd pl : Nat → Int32} {Q O : dc_O} {B : Int32 → Prop} {L S : Nat}
theorem dx_set {post : SX → Prop} {n : Nat} {k a b : Int32} (h : n < 1024) (K : post (dc_X fa fl fc ml mb lc pr ob im kf ((upd N.1 n k, upd N.2.1 n a, upd N.2.2.1 n b, N.2.2.2)) tr lf lr la lb ld lx lab bp bo nd Q O pl)) : wpX_setNode post (dc_X fa fl fc ml mb lc pr ob im kf N tr lf lr la lb ld lx lab bp bo nd Q O pl) (nI n) k a b := by
  have hi : vp_in (nI n) 1024 := vp_in_nI h (by omega)
  have e : (nI n).toNatClampNeg = n := nI_clamp (by omega)
  exact ⟨hi, nm_r (congrArg (fun q => upd N.1 q k) e) ⟨hi, nm_r (congrArg (fun q => upd N.2.1 q a) e) ⟨hi, nm_r (congrArg (fun q => upd N.2.2.1 q b) e) K⟩⟩⟩
theorem dx_imp {post : Int32 → SX → Prop} {x y : Int32} (hG : dc_NG fa fc N) (hx : dc_V fc N x) (hy : dc_V fc N y) (ht : N.2.2.2 < 1024)
    (K : ∀ (r : Int32) (N' : dc_N), dc_NE fc fc N N' → dc_NG fa fc N' → N'.2.2.2 ≤ N.2.2.2 + 1 → dc_I fc N' 2 r x y → post r (dc_X fa fl fc ml mb lc pr ob im kf N' tr lf lr la lb ld lx lab bp bo nd Q O pl)) : wpX_imp post (dc_X fa fl fc ml mb lc pr ob im kf N tr lf lr la lb ld lx lab bp bo nd Q O pl) x y := by
  have hc : fc ≤ 32 := hG.1.2.1
  have h32 : 32 ≤ N.2.2.2 := hG.1.2.2.1
  refine dx_search' (i := 0) (e := fc) (by omega) (Nat.zero_le _) (fun j _ hj k1 k2 k3 => ?_) (fun h1 => ?_)
  · exact br_t (nI_pos' (by omega)) (br_f (nI_pos (by omega)) (K (nI j) N dc_NE_r hG (Nat.le_succ _) ⟨j, rfl, Or.inl hj, k1, k2, k3⟩))
  · refine br_f dc_n1' (dx_search' (i := 32) (e := N.2.2.2) (by omega) h32 (fun j hj1 hj k1 k2 k3 => ?_) (fun h2 => ?_))
    · exact br_f (nI_pos (by omega)) (K (nI j) N dc_NE_r hG (Nat.le_succ _) ⟨j, rfl, Or.inr ⟨hj1, hj⟩, k1, k2, k3⟩)
    · obtain ⟨g1, g2, g3⟩ := dc_ext hG hx hy ht h1 h2
      have K' := K _ _ g1 g2 (Nat.le_refl _) g3
      refine br_t dc_n1 (br_t (nI_lt (b := 1024) ht (by omega)) (dx_set (n := N.2.2.2) ht (nm_r (nI_1 _) ?_)))
      rw [nI_pred]
      exact K'
theorem dx_emit {post : Int32 → SX → Prop} {t f a b x : Int32} (h : O.2.2.2.2.2 < 256) (K : post (nI O.2.2.2.2.2) (dc_X fa fl fc ml mb lc pr ob im kf N tr lf lr la lb ld lx lab bp bo nd Q (dc_push O t f a b x) pl)) : wpX_emit post (dc_X fa fl fc ml mb lc pr ob im kf N tr lf lr la lb ld lx lab bp bo nd Q O pl) t f a b x := by
  have hi : vp_in (nI O.2.2.2.2.2) 256 := vp_in_nI h (by omega)
  have e : (nI O.2.2.2.2.2).toNatClampNeg = O.2.2.2.2.2 := nI_clamp (by omega)
  exact br_t (nI_lt (b := 256) h (by omega)) ⟨hi, nm_r (congrArg (fun q => upd O.1 q t) e) ⟨hi, nm_r (congrArg (fun q => upd O.2.1 q f) e) ⟨hi, nm_r (congrArg (fun q => upd O.2.2.1 q a) e) ⟨hi, nm_r (congrArg (fun q => upd O.2.2.2.1 q b) e) ⟨hi, nm_r (congrArg (fun q => upd O.2.2.2.2.1 q x) e) (nm_r (nI_1 _) K)⟩⟩⟩⟩⟩
theorem dx_app {post : Int32 → SX → Prop} {t x y z : Int32} {i : Nat} (hG : dc_NG fa fc N) (hO : dc_OK fa fc lf ld bp B L N O S) (hx : dc_V fc N x) (hy : dc_V fc N y) (ht : N.2.2.2 < 1024) (hc : O.2.2.2.2.2 + 2 ≤ 256) (hi : i < O.2.2.2.2.2) (hfi : O.2.1 i = x) (hB : B z) (hL : dc_D ld z ≤ L) (hAN : dc_AN ld bp (O.2.2.2.2.1 i) z)
    (hA : ∀ (N' : dc_N) (w : Int32), dc_NE fc fc N N' → dc_I fc N' 2 w x y → dc_AX fc N' (nI fa) t w)
    (K : ∀ (N' : dc_N) (O' : dc_O), dc_NE fc fc N N' → dc_NG fa fc N' → N'.2.2.2 ≤ N.2.2.2 + 1 → dc_OE O O' → dc_OK fa fc lf ld bp B L N' O' (S + (2 * dc_p (dc_D ld z) + (dc_p (dc_D ld z) - dc_p (dc_D ld (O.2.2.2.2.1 i))))) → O'.2.2.2.2.2 = O.2.2.2.2.2 + 2 → O'.2.2.2.2.1 (O.2.2.2.2.2 + 1) = z → O'.2.1 (O.2.2.2.2.2 + 1) = y → O'.1 O.2.2.2.2.2 = t → O'.1 (O.2.2.2.2.2 + 1) = 2 → post (nI (O.2.2.2.2.2 + 1)) (dc_X fa fl fc ml mb lc pr ob im kf N' tr lf lr la lb ld lx lab bp bo nd Q O' pl)) : wpX_applyAxiom post (dc_X fa fl fc ml mb lc pr ob im kf N tr lf lr la lb ld lx lab bp bo nd Q O pl) t x y (nI i) z := by
  refine dx_imp hG hx hy ht (fun w N' n1 n2 n3 n4 => ?_)
  refine dx_emit (by omega) ?_
  refine dx_emit (O := dc_push O t w (-1) (-1) z) (show O.2.2.2.2.2 + 1 < 256 by omega) ?_
  have o1 := dc_OK_ax (t := t) (f := w) (a := -1) (b := -1) (by omega) (dc_OK_N n1 hO) hB hL (hA N' w n1 n4)
  have e1 := dc_OE_p (O := O) (t := t) (f := w) (a := -1) (b := -1) (x := z)
  obtain ⟨a1, a2, a3, a4, a5, a6⟩ := dc_p_at (O := O) (t := t) (f := w) (a := -1) (b := -1) (x := z)
  obtain ⟨i1, i2, i3, i4, i5⟩ := e1.2 i hi
  have o2 := dc_OK_mod (f := y) (x := z) (i := O.2.2.2.2.2) (j := i) (by show O.2.2.2.2.2 + 1 ≤ 256; omega) o1 hB hL (dc_V_m n1 hy) (Nat.lt_succ_self _) (Nat.lt_succ_of_lt hi) (by rw [a5]; exact dc_AN_r _) (by rw [i5]; exact hAN) (by rw [a2, i2, hfi]; exact n4)
  have e2 := dc_OE_p (O := dc_push O t w (-1) (-1) z) (t := 2) (f := y) (a := nI O.2.2.2.2.2) (b := nI i) (x := z)
  obtain ⟨b1, b2, b3, b4, b5, b6⟩ := dc_p_at (O := dc_push O t w (-1) (-1) z) (t := 2) (f := y) (a := nI O.2.2.2.2.2) (b := nI i) (x := z)
  refine K N' _ n1 n2 n3 (dc_OE_t e1 e2) ?_ rfl b5 b2 ((e2.2 O.2.2.2.2.2 (Nat.lt_succ_self _)).1.trans a1) b1
  rw [a5, i5] at o2
  refine ⟨o2.1, Nat.le_trans o2.2 ?_⟩
  omega
end
end
section
/-! lowering: K, S and identity -/
def dc_nu (O O' : dc_O) : Prop := ∀ k, O.2.2.2.2.2 ≤ k → k < O'.2.2.2.2.2 → O'.1 k = 2 ∨ O'.1 k = 4 ∨ O'.1 k = 5
theorem dc_nu_r {O : dc_O} : dc_nu O O := fun k h1 h2 => absurd h2 (by omega)
theorem dc_nu_t {O O' O'' : dc_O} (h : dc_nu O O') (e : dc_OE O' O'') (g : dc_nu O' O'') : dc_nu O O'' := by
  intro k h1 h2
  by_cases q : k < O'.2.2.2.2.2
  · rw [(e.2 k q).1]; exact h k h1 q
  · exact g k (by omega) h2
/-- what a lowering leaves -/
def dc_R (fa fc : Nat) (lf ld bp : Nat → Int32) (B : Int32 → Prop) (L : Nat) (N : dc_N) (O : dc_O) (S c : Nat) (z : Int32) (N' : dc_N) (O' : dc_O) (r : Nat) : Prop :=
  dc_NE fc fc N N' ∧ dc_NG fa fc N' ∧ N'.2.2.2 ≤ N.2.2.2 + c ∧ dc_OE O O' ∧ dc_OK fa fc lf ld bp B L N' O' S ∧ O'.2.2.2.2.2 = r + 1 ∧ O'.2.2.2.2.1 r = z ∧ O'.1 r = 2 ∧ dc_nu O O'
section
variable {fa fl fc ml mb lc pr ob : Nat} {im kf : Int32} {N : dc_N} {tr lf lr la lb ld lx lab bp bo nd pl : Nat → Int32} {Q O : dc_O} {B : Int32 → Prop} {L S : Nat}
theorem dx_weaken {post : Int32 → SX → Prop} {z : Int32} {i : Nat} (F : dc_BF fc lf ld bp B) (hG : dc_NG fa fc N) (hO : dc_OK fa fc lf ld bp B L N O S) (ht : N.2.2.2 + 2 ≤ 1024) (hc : O.2.2.2.2.2 + 2 ≤ 256) (hi : i < O.2.2.2.2.2) (hB : B z) (hz : ¬ z = -1) (hL : dc_D ld z = L + 1) (hAN : dc_AN ld bp (O.2.2.2.2.1 i) (bp z.toNatClampNeg))
    (K : ∀ (N' : dc_N) (O' : dc_O) (r : Nat), dc_R fa fc lf ld bp B L N O (S + (dc_p (L + 1) - dc_p (dc_D ld (O.2.2.2.2.1 i)))) 2 (bp z.toNatClampNeg) N' O' r → dc_I fc N' 2 (O'.2.1 r) (lf z.toNatClampNeg) (O.2.1 i) → post (nI r) (dc_X fa fl fc ml mb lc pr ob im kf N' tr lf lr la lb ld lx lab bp bo nd Q O' pl)) : wpX_weaken post (dc_X fa fl fc ml mb lc pr ob im kf N tr lf lr la lb ld lx lab bp bo nd Q O pl) (nI i) z := by
  obtain ⟨u1, u2, u3, u4⟩ := dc_B_up F hB hz
  obtain ⟨n, d, h, q1, q2, q3, q4, q5, q6, q7, q8, q9⟩ := dc_B_n F hB hz
  have hh : dc_V fc N (lf z.toNatClampNeg) := ⟨h, by rw [q2, nI_clamp (by omega)]; exact q8, Or.inl q7⟩
  have hx : dc_V fc N (O.2.1 i) := (hO.1 i hi).2.2.1
  have ei : (nI i).toNatClampNeg = i := nI_clamp (by omega)
  have hd : dc_D ld (bp z.toNatClampNeg) = L := by omega
  have ha := (dc_AN_B' F u1 hAN).2
  rw [hd] at ha
  refine ⟨vp_in_nI (by omega) (by omega), nm_r (congrArg O.2.1 ei) ⟨u4, dx_imp hG hh hx (by omega) (fun g N1 n1 n2 n3 n4 => ⟨u4, ?_⟩)⟩⟩
  refine dx_app (L := L) (S := S) n2 (dc_OK_N n1 hO) (dc_V_m n1 hx) (dc_I_V n4) (by omega) hc hi rfl u1 (by omega) hAN ?_ ?_
  · intro N2 w m1 m2
    exact Or.inl ⟨rfl, O.2.1 i, g, lf z.toNatClampNeg, m2, dc_I_m m1 n4⟩
  · intro N2 O2 m1 m2 m3 m4 m5 m6 m7 m8 m9 m10
    refine K N2 O2 (O.2.2.2.2.2 + 1) ⟨dc_NE_t n1 m1, m2, by omega, m4, ?_, m6, m7, m10, ?_⟩ ?_
    · refine ⟨m5.1, Nat.le_trans m5.2 ?_⟩
      rw [hd, dc_p_s]
      have := dc_p_le ha
      omega
    · intro k k1 k2
      have : k = O.2.2.2.2.2 ∨ k = O.2.2.2.2.2 + 1 := by omega
      rcases this with e | e
      · rw [e, m9]; exact Or.inr (Or.inl rfl)
      · rw [e, m10]; exact Or.inl rfl
    · rw [m8]; exact dc_I_m m1 n4
theorem dx_dist {post : Int32 → SX → Prop} {x y xy z : Int32} {i j : Nat} (F : dc_BF fc lf ld bp B) (hG : dc_NG fa fc N) (hO : dc_OK fa fc lf ld bp B L N O S) (ht : N.2.2.2 + 3 ≤ 1024) (hc : O.2.2.2.2.2 + 3 ≤ 256) (hi : i < O.2.2.2.2.2) (hj : j < O.2.2.2.2.2) (hB : B z) (hz : ¬ z = -1) (hL : dc_D ld z = L + 1) (bi : O.2.2.2.2.1 i = bp z.toNatClampNeg) (bj : O.2.2.2.2.1 j = bp z.toNatClampNeg)
    (ii : dc_I fc N 2 (O.2.1 i) (lf z.toNatClampNeg) xy) (ixy : dc_I fc N 2 xy x y) (ij : dc_I fc N 2 (O.2.1 j) (lf z.toNatClampNeg) x)
    (K : ∀ (N' : dc_N) (O' : dc_O) (r : Nat), dc_R fa fc lf ld bp B L N O (S + dc_p (L + 1)) 3 (bp z.toNatClampNeg) N' O' r → dc_I fc N' 2 (O'.2.1 r) (lf z.toNatClampNeg) y → post (nI r) (dc_X fa fl fc ml mb lc pr ob im kf N' tr lf lr la lb ld lx lab bp bo nd Q O' pl)) : wpX_distribute post (dc_X fa fl fc ml mb lc pr ob im kf N tr lf lr la lb ld lx lab bp bo nd Q O pl) (nI i) (nI j) y z := by
  obtain ⟨u1, u2, u3, u4⟩ := dc_B_up F hB hz
  have hh : dc_V fc N (lf z.toNatClampNeg) := (dc_I_ch hG.1 (Or.inl rfl) ii).1
  have hy : dc_V fc N y := (dc_I_ch hG.1 (Or.inl rfl) ixy).2
  have ei : (nI i).toNatClampNeg = i := nI_clamp (by omega)
  have ej : (nI j).toNatClampNeg = j := nI_clamp (by omega)
  have hd : dc_D ld (bp z.toNatClampNeg) = L := by omega
  refine ⟨u4, dx_imp hG hh hy (by omega) (fun g N1 n1 n2 n3 n4 => ⟨vp_in_nI (by omega) (by omega), ?_⟩)⟩
  rw [ej]
  refine dx_imp n2 (dc_V_m n1 (dc_I_V ij)) (dc_I_V n4) (by omega) (fun mi N2 m1 m2 m3 m4 => ⟨vp_in_nI (by omega) (by omega), u4, ?_⟩)
  rw [ei]
  have t1 := dc_NE_t n1 m1
  refine dx_app (L := L) (S := S) m2 (dc_OK_N t1 hO) (dc_V_m t1 (dc_I_V ii)) (dc_I_V m4) (by omega) (by omega) hi rfl u1 (by omega) (by rw [bi]; exact dc_AN_r _) ?_ ?_
  · intro N3 w l1 l2
    have t2 := dc_NE_t t1 l1
    exact Or.inr (Or.inl ⟨rfl, O.2.1 i, mi, lf z.toNatClampNeg, xy, x, y, O.2.1 j, g, l2, dc_I_m t2 ii, dc_I_m t2 ixy, dc_I_m l1 m4, dc_I_m t2 ij, dc_I_m (dc_NE_t m1 l1) n4⟩)
  · intro N3 O3 l1 l2 l3 l4 l5 l6 l7 l8 l9 l10
    refine ⟨u4, dx_emit (by omega) ?_⟩
    obtain ⟨j1, j2, j3, j4, j5⟩ := l4.2 j hj
    have o2 := dc_OK_mod (f := g) (x := bp z.toNatClampNeg) (i := O.2.2.2.2.2 + 1) (j := j) (by omega) l5 u1 (by omega) (dc_V_m (dc_NE_t m1 l1) (dc_I_V n4)) (by omega) (by omega) (by rw [l7]; exact dc_AN_r _) (by rw [j5, bj]; exact dc_AN_r _) (by rw [l8, j2]; exact dc_I_m l1 m4)
    have e2 := dc_OE_p (O := O3) (t := 2) (f := g) (a := nI (O.2.2.2.2.2 + 1)) (b := nI j) (x := bp z.toNatClampNeg)
    obtain ⟨b1, b2, b3, b4, b5, b6⟩ := dc_p_at (O := O3) (t := 2) (f := g) (a := nI (O.2.2.2.2.2 + 1)) (b := nI j) (x := bp z.toNatClampNeg)
    refine K N3 _ O3.2.2.2.2.2 ⟨dc_NE_t t1 l1, l2, by omega, dc_OE_t l4 e2, ?_, b6, b5, b1, ?_⟩ ?_
    · refine ⟨o2.1, Nat.le_trans o2.2 ?_⟩
      rw [l7, j5, bi, bj, hd, dc_p_s]
      omega
    · intro k k1 k2
      rw [b6] at k2
      by_cases e : k = O3.2.2.2.2.2
      · rw [e, b1]; exact Or.inl rfl
      · rw [(e2.2 k (by omega)).1]
        have : k = O.2.2.2.2.2 ∨ k = O.2.2.2.2.2 + 1 := by omega
        rcases this with e | e
        · rw [e, l9]; exact Or.inr (Or.inr rfl)
        · rw [e, l10]; exact Or.inl rfl
    · rw [b2]; exact dc_I_m (dc_NE_t m1 l1) n4
theorem dx_ident {post : Int32 → SX → Prop} {h z : Int32} (hG : dc_NG fa fc N) (hO : dc_OK fa fc lf ld bp B L N O S) (ht : N.2.2.2 + 6 ≤ 1024) (hc : O.2.2.2.2.2 + 5 ≤ 256) (hB : B z) (hL : dc_D ld z = L) (hh : dc_V fc N h)
    (K : ∀ (N' : dc_N) (O' : dc_O) (r : Nat), dc_R fa fc lf ld bp B L N O (S + 5 * dc_p L) 6 z N' O' r → dc_I fc N' 2 (O'.2.1 r) h h → post (nI r) (dc_X fa fl fc ml mb lc pr ob im kf N' tr lf lr la lb ld lx lab bp bo nd Q O' pl)) : wpX_identity post (dc_X fa fl fc ml mb lc pr ob im kf N tr lf lr la lb ld lx lab bp bo nd Q O pl) h z := by
  refine dx_imp hG hh hh (by omega) (fun sf N1 a1 a2 a3 a4 => ?_)
  refine dx_imp a2 (dc_I_V a4) (dc_V_m a1 hh) (by omega) (fun bk N2 b1 b2 b3 b4 => ?_)
  have t2 := dc_NE_t a1 b1
  refine dx_imp b2 (dc_V_m t2 hh) (dc_I_V b4) (by omega) (fun lk N3 c1 c2 c3 c4 => ?_)
  have t3 := dc_NE_t t2 c1
  have s3 := dc_NE_t b1 c1
  refine dx_imp c2 (dc_V_m t3 hh) (dc_V_m s3 (dc_I_V a4)) (by omega) (fun sk N4 d1 d2 d3 d4 => ?_)
  have t4 := dc_NE_t t3 d1
  have s4 := dc_NE_t s3 d1
  refine dx_imp d2 (dc_I_V d4) (dc_V_m s4 (dc_I_V a4)) (by omega) (fun mi N5 e1 e2 e3 e4 => ?_)
  have t5 := dc_NE_t t4 e1
  have s5 := dc_NE_t s4 e1
  have i_sf : dc_I fc N5 2 sf h h := dc_I_m s5 a4
  have i_bk : dc_I fc N5 2 bk sf h := dc_I_m (dc_NE_t (dc_NE_t c1 d1) e1) b4
  have i_lk : dc_I fc N5 2 lk h bk := dc_I_m (dc_NE_t d1 e1) c4
  have i_sk : dc_I fc N5 2 sk h sf := dc_I_m e1 d4
  refine dx_emit (by omega) ?_
  have o1 := dc_OK_ax (t := 4) (f := lk) (a := -1) (b := -1) (x := z) (by omega) (dc_OK_N t5 hO) hB (by omega) (Or.inl ⟨rfl, h, bk, sf, i_lk, i_bk⟩)
  have p1 := dc_OE_p (O := O) (t := 4) (f := lk) (a := -1) (b := -1) (x := z)
  obtain ⟨q1, q2, q3, q4, q5, q6⟩ := dc_p_at (O := O) (t := 4) (f := lk) (a := -1) (b := -1) (x := z)
  refine dx_app (O := dc_push O 4 lk (-1) (-1) z) (L := L) (i := O.2.2.2.2.2) e2 o1 (dc_I_V i_lk) (dc_I_V e4) (by omega) (by show O.2.2.2.2.2 + 1 + 2 ≤ 256; omega) (Nat.lt_succ_self _) q2 hB (by omega) (by rw [q5]; exact dc_AN_r _) ?_ ?_
  · intro N6 w l1 l2
    exact Or.inr (Or.inl ⟨rfl, lk, mi, h, bk, sf, h, sk, sf, l2, dc_I_m l1 i_lk, dc_I_m l1 i_bk, dc_I_m l1 e4, dc_I_m l1 i_sk, dc_I_m l1 i_sf⟩)
  · intro N6 O6 l1 l2 l3 l4 l5 l6 l7 l8 l9 l10
    have l6' : O6.2.2.2.2.2 = O.2.2.2.2.2 + 3 := l6
    refine dx_emit (by omega) ?_
    have o2 := dc_OK_ax (t := 4) (f := sk) (a := -1) (b := -1) (x := z) (by omega) l5 hB (by omega) (Or.inl ⟨rfl, h, sf, h, dc_I_m l1 i_sk, dc_I_m l1 i_sf⟩)
    have p2 := dc_OE_p (O := O6) (t := 4) (f := sk) (a := -1) (b := -1) (x := z)
    obtain ⟨v1, v2, v3, v4, v5, v6⟩ := dc_p_at (O := O6) (t := 4) (f := sk) (a := -1) (b := -1) (x := z)
    refine dx_emit (O := dc_push O6 4 sk (-1) (-1) z) (show O6.2.2.2.2.2 + 1 < 256 by omega) ?_
    obtain ⟨j1, j2, j3, j4, j5⟩ := p2.2 (O.2.2.2.2.2 + 1 + 1) (by omega)
    have o3 := dc_OK_mod (f := sf) (x := z) (i := O.2.2.2.2.2 + 1 + 1) (j := O6.2.2.2.2.2) (by show O6.2.2.2.2.2 + 1 ≤ 256; omega) o2 hB (by omega) (dc_V_m l1 (dc_I_V i_sf)) (by show _ < O6.2.2.2.2.2 + 1; omega) (Nat.lt_succ_self _) (by rw [j5]; rw [show O6.2.2.2.2.1 (O.2.2.2.2.2 + 1 + 1) = z from l7]; exact dc_AN_r _) (by rw [v5]; exact dc_AN_r _) (by rw [j2, v2, show O6.2.1 (O.2.2.2.2.2 + 1 + 1) = mi from l8]; exact dc_I_m l1 e4)
    have p3 := dc_OE_p (O := dc_push O6 4 sk (-1) (-1) z) (t := 2) (f := sf) (a := nI (O.2.2.2.2.2 + 1 + 1)) (b := nI O6.2.2.2.2.2) (x := z)
    obtain ⟨y1, y2, y3, y4, y5, y6⟩ := dc_p_at (O := dc_push O6 4 sk (-1) (-1) z) (t := 2) (f := sf) (a := nI (O.2.2.2.2.2 + 1 + 1)) (b := nI O6.2.2.2.2.2) (x := z)
    refine K N6 (dc_push (dc_push O6 4 sk (-1) (-1) z) 2 sf (nI (O.2.2.2.2.2 + 1 + 1)) (nI O6.2.2.2.2.2) z) (O6.2.2.2.2.2 + 1) ⟨dc_NE_t t5 l1, l2, by omega, dc_OE_t p1 (dc_OE_t l4 (dc_OE_t p2 p3)), ?_, rfl, y5, y1, ?_⟩ ?_
    · refine ⟨o3.1, Nat.le_trans o3.2 ?_⟩
      rw [j5, v5, q5, show O6.2.2.2.2.1 (O.2.2.2.2.2 + 1 + 1) = z from l7, hL]
      omega
    · intro k k1 k2
      have k2' : k < O6.2.2.2.2.2 + 1 + 1 := k2
      by_cases e : k = O6.2.2.2.2.2 + 1
      · rw [e]; exact Or.inl y1
      · rw [(p3.2 k (show k < O6.2.2.2.2.2 + 1 by omega)).1]
        by_cases e : k = O6.2.2.2.2.2
        · rw [e, v1]; exact Or.inr (Or.inl rfl)
        · rw [(p2.2 k (by omega)).1]
          have : k = O.2.2.2.2.2 ∨ k = O.2.2.2.2.2 + 1 ∨ k = O.2.2.2.2.2 + 1 + 1 := by omega
          rcases this with e | e | e
          · rw [e, (l4.2 O.2.2.2.2.2 (Nat.lt_succ_self _)).1, q1]; exact Or.inr (Or.inl rfl)
          · rw [e]; exact Or.inr (Or.inr l9)
          · rw [e]; exact Or.inl l10
    · rw [show (dc_push (dc_push O6 4 sk (-1) (-1) z) 2 sf (nI (O.2.2.2.2.2 + 1 + 1)) (nI O6.2.2.2.2.2) z).2.1 (O6.2.2.2.2.2 + 1) = sf from y2]; exact dc_I_m l1 i_sf
end
end
section
/-! one line of an elimination pass -/
def dc_PLC (fc : Nat) (lf ld bp : Nat → Int32) (L : Nat) (Q : dc_O) (N : dc_N) (O : dc_O) (k p : Nat) : Prop :=
  (dc_D ld (Q.2.2.2.2.1 k) = L + 1 → O.2.2.2.2.1 p = bp (Q.2.2.2.2.1 k).toNatClampNeg ∧ dc_I fc N 2 (O.2.1 p) (lf (Q.2.2.2.2.1 k).toNatClampNeg) (Q.2.1 k)) ∧
  (¬ dc_D ld (Q.2.2.2.2.1 k) = L + 1 → O.2.2.2.2.1 p = Q.2.2.2.2.1 k ∧ O.2.1 p = Q.2.1 k)
def dc_MT (t : Int32) : Prop := t = 1 ∨ t = 6 ∨ t = 7 ∨ t = 8 ∨ t = 9
def dc_LM (O : dc_O) (k : Nat) (t x f : Int32) : Prop := O.1 k = t ∧ (t = 1 → O.2.2.1 k = x ∧ O.2.1 k = f)
def dc_HM (O : dc_O) (n : Nat) (t x f : Int32) : Prop := ∃ k, k < n ∧ dc_LM O k t x f
def dc_tc (O : dc_O) : Nat → Prop
  | 0 => ¬ O.1 0 = 3
  | k + 1 => ¬ O.1 (k + 1) = 3 ∨ (O.2.2.1 (k + 1) = nI k ∧ dc_tc O k)
theorem dc_tc_n {O : dc_O} {k : Nat} (h : ¬ O.1 k = 3) : dc_tc O k := by
  cases k with
  | zero => exact h
  | succ k => exact Or.inl h
theorem dc_tc_m {O O' : dc_O} (e : dc_OE O O') : ∀ k, k < O.2.2.2.2.2 → dc_tc O k → dc_tc O' k := by
  intro k
  induction k with
  | zero =>
    intro hk h
    show ¬ O'.1 0 = 3
    rw [(e.2 0 hk).1]; exact h
  | succ k ih =>
    intro hk h
    obtain ⟨e1, e2, e3, e4, e5⟩ := e.2 (k + 1) hk
    rcases h with h | h
    · exact dc_tc_n (by rw [e1]; exact h)
    · exact Or.inr ⟨e3.trans h.1, ih (by omega) h.2⟩
theorem dc_LM_m {O O' : dc_O} (e : dc_OE O O') {k : Nat} (hk : k < O.2.2.2.2.2) (t x f : Int32) : dc_LM O' k t x f ↔ dc_LM O k t x f := by
  obtain ⟨e1, e2, e3, e4, e5⟩ := e.2 k hk
  unfold dc_LM
  rw [e1, e2, e3]
theorem dc_HM_nu {O O' : dc_O} (e : dc_OE O O') (h : dc_nu O O') {t x f : Int32} (ht : dc_MT t) : dc_HM O' O'.2.2.2.2.2 t x f ↔ dc_HM O O.2.2.2.2.2 t x f := by
  constructor
  · rintro ⟨k, hk, m⟩
    by_cases q : k < O.2.2.2.2.2
    · exact ⟨k, q, (dc_LM_m e q t x f).mp m⟩
    · exfalso
      have m1 : O'.1 k = t := m.1
      rcases h k (by omega) hk with g | g | g <;> rw [g] at m1 <;> subst m1 <;> rcases ht with z | z | z | z | z <;> exact absurd z (by decide)
  · rintro ⟨k, hk, m⟩
    exact ⟨k, Nat.lt_of_lt_of_le hk e.1, (dc_LM_m e hk t x f).mpr m⟩
theorem dc_HM_p {O : dc_O} {t0 f0 a b z t x f : Int32} : dc_HM (dc_push O t0 f0 a b z) (O.2.2.2.2.2 + 1) t x f ↔ (dc_HM O O.2.2.2.2.2 t x f ∨ (t0 = t ∧ (t = 1 → a = x ∧ f0 = f))) := by
  obtain ⟨e1, e2, e3, e4, e5, e6⟩ := dc_p_at (O := O) (t := t0) (f := f0) (a := a) (b := b) (x := z)
  have e := dc_OE_p (O := O) (t := t0) (f := f0) (a := a) (b := b) (x := z)
  constructor
  · rintro ⟨k, hk, m⟩
    by_cases q : k < O.2.2.2.2.2
    · exact Or.inl ⟨k, q, (dc_LM_m e q t x f).mp m⟩
    · have : k = O.2.2.2.2.2 := by omega
      subst this
      unfold dc_LM at m
      rw [e1, e2, e3] at m
      exact Or.inr m
  · rintro (⟨k, hk, m⟩ | m)
    · exact ⟨k, by omega, (dc_LM_m e hk t x f).mpr m⟩
    · refine ⟨O.2.2.2.2.2, by omega, ?_⟩
      unfold dc_LM
      rw [e1, e2, e3]
      exact m
theorem dc_LM_no {Q : dc_O} {k : Nat} {t x f : Int32} (h : Q.1 k = 0 ∨ Q.1 k = 2 ∨ Q.1 k = 3 ∨ Q.1 k = 4 ∨ Q.1 k = 5) (ht : dc_MT t) : ¬ dc_LM Q k t x f := by
  intro m
  have m1 : Q.1 k = t := m.1
  rcases h with g | g | g | g | g <;> rw [g] at m1 <;> subst m1 <;> rcases ht with z | z | z | z | z <;> exact absurd z (by decide)
section
variable {fa fc L : Nat} {lf ld bp : Nat → Int32} {B : Int32 → Prop} {N N' : dc_N} {Q O O' : dc_O}
theorem dc_PLC_m {k p : Nat} (hN : dc_NE fc fc N N') (hO : dc_OE O O') (hp : p < O.2.2.2.2.2) (h : dc_PLC fc lf ld bp L Q N O k p) : dc_PLC fc lf ld bp L Q N' O' k p := by
  obtain ⟨e1, e2, e3, e4, e5⟩ := hO.2 p hp
  unfold dc_PLC
  rw [e2, e5]
  exact ⟨fun q => ⟨(h.1 q).1, dc_I_m hN (h.1 q).2⟩, h.2⟩
end
/-- the step's outcome -/
def dc_ST (fa fc : Nat) (lf ld bp : Nat → Int32) (B : Int32 → Prop) (L : Nat) (Q : dc_O) (N : dc_N) (O : dc_O) (S k : Nat) (N' : dc_N) (O' : dc_O) (p : Nat) : Prop :=
  dc_NE fc fc N N' ∧ dc_NG fa fc N' ∧ 5 * N'.2.2.2 ≤ 5 * N.2.2.2 + 6 * dc_w ld Q k ∧ dc_OE O O' ∧ dc_OK fa fc lf ld bp B L N' O' (S + dc_w ld Q k) ∧ p < O'.2.2.2.2.2 ∧ dc_PLC fc lf ld bp L Q N' O' k p ∧
  (∀ t x f, dc_MT t → (dc_HM O' O'.2.2.2.2.2 t x f ↔ (dc_HM O O.2.2.2.2.2 t x f ∨ dc_LM Q k t x f))) ∧ (dc_tc Q k → p + 1 = O'.2.2.2.2.2 ∧ dc_tc O' p)
/-- what is known ahead of the step -/
def dc_PR (fc : Nat) (lf ld bp : Nat → Int32) (L : Nat) (Q : dc_O) (N : dc_N) (O : dc_O) (pl : Nat → Int32) (k : Nat) : Prop :=
  (∀ i, i < k → ∃ p : Nat, pl i = nI p ∧ p < O.2.2.2.2.2 ∧ dc_PLC fc lf ld bp L Q N O i p) ∧ (∀ i, i + 1 = k → dc_tc Q i → ∃ p : Nat, pl i = nI p ∧ p + 1 = O.2.2.2.2.2 ∧ dc_tc O p)
section
variable {fa fl fc ml mb lc pr ob : Nat} {im kf : Int32} {N : dc_N} {tr lf lr la lb ld lx lab bp bo nd pl : Nat → Int32} {Q O : dc_O} {B : Int32 → Prop} {L S : Nat}
theorem dx_seen {post : Int32 → SX → Prop} {z : Int32} {k p : Nat} (F : dc_BF fc lf ld bp B) (hG : dc_NG fa fc N) (hO : dc_OK fa fc lf ld bp B L N O S) (ht : N.2.2.2 + (dc_p (L + 1) - dc_p (dc_D ld (Q.2.2.2.2.1 k))) ≤ 1024) (hc : S + (dc_p (L + 1) - dc_p (dc_D ld (Q.2.2.2.2.1 k))) ≤ 256) (hk : k < 256) (hp : pl k = nI p) (hpc : p < O.2.2.2.2.2) (hB : B z) (hz : ¬ z = -1) (hL : dc_D ld z = L + 1) (hAN : dc_AN ld bp (Q.2.2.2.2.1 k) z) (hP : dc_PLC fc lf ld bp L Q N O k p)
    (K : ∀ (N' : dc_N) (O' : dc_O) (r : Nat), dc_NE fc fc N N' → dc_NG fa fc N' → N'.2.2.2 ≤ N.2.2.2 + (dc_p (L + 1) - dc_p (dc_D ld (Q.2.2.2.2.1 k))) → dc_OE O O' → dc_OK fa fc lf ld bp B L N' O' (S + (dc_p (L + 1) - dc_p (dc_D ld (Q.2.2.2.2.1 k)))) → r < O'.2.2.2.2.2 → O'.2.2.2.2.1 r = bp z.toNatClampNeg → dc_I fc N' 2 (O'.2.1 r) (lf z.toNatClampNeg) (Q.2.1 k) → dc_nu O O' → (¬ Q.2.2.2.2.1 k = z → r + 1 = O'.2.2.2.2.2 ∧ O'.1 r = 2) → post (nI r) (dc_X fa fl fc ml mb lc pr ob im kf N' tr lf lr la lb ld lx lab bp bo nd Q O' pl)) : wpX_seenFrom post (dc_X fa fl fc ml mb lc pr ob im kf N tr lf lr la lb ld lx lab bp bo nd Q O pl) (nI k) z := by
  have hi : vp_in (nI k) 256 := vp_in_nI hk (by omega)
  have ek : (nI k).toNatClampNeg = k := nI_clamp (by omega)
  have hct := dc_OK_ct hO
  refine ⟨hi, ?_⟩
  (try rw [ek])
  refine br_c (fun e => ⟨hi, ?_⟩) (fun e => ⟨hi, ?_⟩)
  · (try rw [ek])
    rw [hp]
    have hd : dc_D ld (Q.2.2.2.2.1 k) = L + 1 := by rw [e]; exact hL
    obtain ⟨p1, p2⟩ := hP.1 hd
    rw [e] at p1 p2
    refine K N O p dc_NE_r hG (Nat.le_add_right _ _) dc_OE_r ⟨hO.1, Nat.le_trans hO.2 (Nat.le_add_right _ _)⟩ hpc p1 p2 dc_nu_r (fun q => absurd e q)
  · (try rw [ek])
    rw [hp]
    obtain ⟨s1, s2, s3⟩ := dc_AN_s F hB hAN e
    obtain ⟨p1, p2⟩ := hP.2 (by omega)
    have h1 := dc_p_le (a := dc_D ld (Q.2.2.2.2.1 k)) (b := L) (by omega)
    have h2 := dc_p_pos L
    have h3 := dc_p_s L
    refine dx_weaken F hG hO (by omega) (by omega) hpc hB hz hL (by rw [p1]; exact s2) (fun N' O' r R I => ?_)
    obtain ⟨r1, r2, r3, r4, r5, r6, r7, r8, r9⟩ := R
    rw [p1] at r5
    rw [p2] at I
    exact K N' O' r r1 r2 (by omega) r4 r5 (by omega) r7 I r9 (fun _ => ⟨r6.symm, r8⟩)
end
end
section
section
variable {fa fl fc ml mb lc pr ob : Nat} {im kf : Int32} {N : dc_N} {tr lf lr la lb ld lx lab bp bo nd pl : Nat → Int32} {Q O : dc_O} {B : Int32 → Prop} {L S : Nat}
theorem dx_lower {post : Int32 → SX → Prop} {k : Nat} (F : dc_BF fc lf ld bp B) (hG : dc_NG fa fc N) (hO : dc_OK fa fc lf ld bp B L N O S) (ht : 5 * N.2.2.2 + 6 * dc_w ld Q k ≤ 5120) (hc : S + dc_w ld Q k ≤ 256) (hk : k < 256) (hQ : ∀ i, i ≤ k → dc_LW fa fc lf ld bp B (L + 1) N Q i) (hL : dc_D ld (Q.2.2.2.2.1 k) = L + 1) (hP : dc_PR fc lf ld bp L Q N O pl k)
    (K : ∀ (N' : dc_N) (O' : dc_O) (p : Nat), dc_ST fa fc lf ld bp B L Q N O S k N' O' p → post (nI p) (dc_X fa fl fc ml mb lc pr ob im kf N' tr lf lr la lb ld lx lab bp bo nd Q O' pl)) : wpX_lower post (dc_X fa fl fc ml mb lc pr ob im kf N tr lf lr la lb ld lx lab bp bo nd Q O pl) (nI k) := by
  have hi : vp_in (nI k) 256 := vp_in_nI hk (by omega)
  have ek : (nI k).toNatClampNeg = k := nI_clamp (by omega)
  have hct := dc_OK_ct hO
  obtain ⟨hB, _, hV, hT⟩ := hQ k (Nat.le_refl _)
  have hz : ¬ Q.2.2.2.2.1 k = -1 := by
    intro e; rw [e, dc_D_m] at hL; omega
  obtain ⟨u1, u2, u3, u4⟩ := dc_B_up F hB hz
  have hd : dc_D ld (bp (Q.2.2.2.2.1 k).toNatClampNeg) = L := by omega
  have h2 := dc_p_pos L
  have h3 := dc_p_s L
  refine ⟨hi, nm_r (congrArg Q.2.2.2.2.1 ek) ⟨hi, nm_r (congrArg Q.1 ek) ?_⟩⟩
  rcases hT with ⟨t0, t1, t2⟩ | ⟨t0, t1, t2⟩ | ⟨t0, i, j, hi', hj', ei, ej, ai, aj, I1⟩ | ⟨t0, i, hi', ei, hn, hh⟩ | hA
  · -- hypothesis
    have hw : dc_w ld Q k = 5 * dc_p L := by
      rw [dc_w_0 t0, hL]; rfl
    rw [hw] at ht hc
    refine br_t t0 ⟨u4, u4, ?_⟩
    refine dx_ident hG hO (by omega) (by omega) u1 hd (by rw [← t2]; exact hV) (fun N' O' r R I => K N' O' r ?_)
    obtain ⟨r1, r2, r3, r4, r5, r6, r7, r8, r9⟩ := R
    rw [← t2] at I
    refine ⟨r1, r2, by rw [hw]; omega, r4, by rw [hw]; exact r5, by omega, ⟨fun _ => ⟨r7, by rw [← t2]; exact I⟩, fun q => absurd hL q⟩, ?_, ?_⟩
    · intro t x f hm
      rw [dc_HM_nu r4 r9 hm]
      exact ⟨Or.inl, fun q => q.resolve_right (dc_LM_no (Or.inl t0) hm)⟩
    · intro _
      exact ⟨r6.symm, dc_tc_n (by rw [r8]; decide)⟩
  · exact absurd t1 hz
  · -- modus
    have hw : dc_w ld Q k = dc_p (L + 1) + (dc_p (L + 1) - dc_p (dc_D ld (Q.2.2.2.2.1 i))) + (dc_p (L + 1) - dc_p (dc_D ld (Q.2.2.2.2.1 j))) := by
      rw [dc_w_2 t0, ei, ej, nI_clamp (by omega), nI_clamp (by omega), hL]
    rw [hw] at ht hc
    obtain ⟨p, hp1, hp2, hp3⟩ := hP.1 i hi'
    obtain ⟨q, hq1, hq2, hq3⟩ := hP.1 j hj'
    have T0 : ¬ Q.1 k = 0 := by rw [t0]; decide
    have T3 : ¬ Q.1 k = 3 := by rw [t0]; decide
    refine br_f T0 (br_f T3 (br_t t0 ⟨hi, ?_⟩))
    (try rw [ek])
    (try rw [ei])
    refine dx_seen F hG hO (by omega) (by omega) (by omega) hp1 hp2 hB hz hL ai hp3 (fun N1 O1 r1 a1 a2 a3 a4 a5 a6 a7 a8 a9 _ => ⟨hi, ?_⟩)
    (try rw [ek])
    (try rw [ej])
    refine dx_seen F a2 a5 (by omega) (by omega) (by omega) hq1 (Nat.lt_of_lt_of_le hq2 a4.1) hB hz hL aj (dc_PLC_m a1 a4 hq2 hq3) (fun N2 O2 r2 b1 b2 b3 b4 b5 b6 b7 b8 b9 _ => ⟨hi, ?_⟩)
    (try rw [ek])
    obtain ⟨_, f2, _, _, f5⟩ := b4.2 r1 a6
    have t12 := dc_NE_t a1 b1
    have hct2 := dc_OK_ct b5
    refine dx_dist (x := Q.2.1 j) (xy := Q.2.1 i) F b2 b5 (by omega) (by omega) (Nat.lt_of_lt_of_le a6 b4.1) b6 hB hz hL (f5.trans a7) b7 (by rw [f2]; exact dc_I_m b1 a8) (dc_I_m t12 I1) b8 (fun N3 O3 r3 R I => K N3 O3 r3 ?_)
    obtain ⟨c1, c2, c3, c4, c5, c6, c7, c8, c9⟩ := R
    have o13 := dc_OE_t a4 (dc_OE_t b4 c4)
    refine ⟨dc_NE_t t12 c1, c2, by rw [hw]; omega, o13, ⟨c5.1, Nat.le_trans c5.2 (by rw [hw]; omega)⟩, by omega, ⟨fun _ => ⟨c7, I⟩, fun q => absurd hL q⟩, ?_, ?_⟩
    · intro t x f hm
      rw [dc_HM_nu o13 (dc_nu_t a9 (dc_OE_t b4 c4) (dc_nu_t b9 c4 c9)) hm]
      exact ⟨Or.inl, fun q => q.resolve_right (dc_LM_no (Or.inr (Or.inl t0)) hm)⟩
    · intro _
      exact ⟨c6.symm, dc_tc_n (by rw [c8]; decide)⟩
  · -- link
    have T0 : ¬ Q.1 k = 0 := by rw [t0]; decide
    have ai : dc_AN ld bp (Q.2.2.2.2.1 i) (Q.2.2.2.2.1 k) ∧ Q.2.1 i = Q.2.1 k := by
      rcases hh with hh | ⟨g1, g2, g3⟩
      · exact hh
      · exfalso
        obtain ⟨b1, b2, _⟩ := hQ i (by omega)
        have b3 := (dc_B_up F b1 g1).2.1
        rw [g2] at b3
        omega
    have hw : dc_w ld Q k = (dc_p (L + 1) - dc_p (dc_D ld (Q.2.2.2.2.1 i))) + 1 := by
      rw [dc_w_3 t0, ei, nI_clamp (by omega), hL]
    rw [hw] at ht hc
    obtain ⟨p, hp1, hp2, hp3⟩ := hP.1 i hi'
    refine br_f T0 (br_t t0 ⟨hi, ?_⟩)
    (try rw [ek])
    (try rw [ei])
    refine dx_seen F hG hO (by omega) (by omega) (by omega) hp1 hp2 hB hz hL ai.1 hp3 (fun N1 O1 r1 a1 a2 a3 a4 a5 a6 a7 a8 a9 a10 => K N1 O1 r1 ?_)
    obtain ⟨l1, l2⟩ := a10 hn
    rw [ai.2] at a8
    refine ⟨a1, a2, by rw [hw]; omega, a4, ⟨a5.1, Nat.le_trans a5.2 (by rw [hw]; omega)⟩, a6, ⟨fun _ => ⟨a7, a8⟩, fun q => absurd hL q⟩, ?_, ?_⟩
    · intro t x f hm
      rw [dc_HM_nu a4 a9 hm]
      exact ⟨Or.inl, fun q => q.resolve_right (dc_LM_no (Or.inr (Or.inr (Or.inl t0))) hm)⟩
    · intro _
      exact ⟨l1, dc_tc_n (by rw [l2]; decide)⟩
  · -- a scheme
    obtain ⟨T0, T1, T2, T3⟩ := dc_AX_t hA
    have hw : dc_w ld Q k = dc_p (L + 1) := by
      rw [dc_w_o T0 T2 T3, hL]
    rw [hw] at ht hc
    refine br_f T0 (br_f T3 (br_f T2 ⟨hi, u4, ?_⟩))
    (try rw [ek])
    refine dx_emit (by omega) ?_
    have o1 := dc_OK_ax (t := Q.1 k) (f := Q.2.1 k) (a := -1) (b := -1) (x := bp (Q.2.2.2.2.1 k).toNatClampNeg) (by omega) hO u1 (by omega) hA
    have p1 := dc_OE_p (O := O) (t := Q.1 k) (f := Q.2.1 k) (a := -1) (b := -1) (x := bp (Q.2.2.2.2.1 k).toNatClampNeg)
    obtain ⟨q1, q2, q3, q4, q5, q6⟩ := dc_p_at (O := O) (t := Q.1 k) (f := Q.2.1 k) (a := -1) (b := -1) (x := bp (Q.2.2.2.2.1 k).toNatClampNeg)
    refine dx_weaken (O := dc_push O (Q.1 k) (Q.2.1 k) (-1) (-1) (bp (Q.2.2.2.2.1 k).toNatClampNeg)) (i := O.2.2.2.2.2) F hG o1 (by omega) (by show O.2.2.2.2.2 + 1 + 2 ≤ 256; omega) (Nat.lt_succ_self _) hB hz hL (by rw [q5]; exact dc_AN_r _) (fun N' O' r R I => K N' O' r ?_)
    obtain ⟨r1, r2, r3, r4, r5, r6, r7, r8, r9⟩ := R
    rw [q2] at I
    rw [q5, hd] at r5
    refine ⟨r1, r2, by rw [hw]; omega, dc_OE_t p1 r4, ⟨r5.1, Nat.le_trans r5.2 (by rw [hw]; omega)⟩, by omega, ⟨fun _ => ⟨r7, I⟩, fun q => absurd hL q⟩, ?_, ?_⟩
    · intro t x f hm
      rw [dc_HM_nu r4 r9 hm]
      refine Iff.trans dc_HM_p ?_
      constructor
      · rintro (g | g)
        · exact Or.inl g
        · exact Or.inr ⟨g.1, fun e => absurd (g.1.trans e) T1⟩
      · rintro (g | g)
        · exact Or.inl g
        · exact Or.inr ⟨g.1, fun e => absurd (g.1.trans e) T1⟩
    · intro _
      exact ⟨r6.symm, dc_tc_n (by rw [r8]; decide)⟩
end
end
section
section
variable {fa fl fc ml mb lc pr ob : Nat} {im kf : Int32} {N : dc_N} {tr lf lr la lb ld lx lab bp bo nd pl : Nat → Int32} {Q O : dc_O} {B : Int32 → Prop} {L S : Nat}
theorem dx_link_e {post : Int32 → SX → Prop} {p : Nat} {f z : Int32} (hp : p < 256) (h : O.2.2.2.2.1 p = z) (K : post (nI p) (dc_X fa fl fc ml mb lc pr ob im kf N tr lf lr la lb ld lx lab bp bo nd Q O pl)) : wpX_link post (dc_X fa fl fc ml mb lc pr ob im kf N tr lf lr la lb ld lx lab bp bo nd Q O pl) f (nI p) z := by
  have ek : (nI p).toNatClampNeg = p := nI_clamp (by omega)
  refine ⟨vp_in_nI hp (by omega), br_t ?_ K⟩
  rw [ek]; exact h
theorem dx_link_n {post : Int32 → SX → Prop} {p : Nat} {f z : Int32} (hp : p < 256) (h : ¬ O.2.2.2.2.1 p = z) (hc : O.2.2.2.2.2 < 256) (K : post (nI O.2.2.2.2.2) (dc_X fa fl fc ml mb lc pr ob im kf N tr lf lr la lb ld lx lab bp bo nd Q (dc_push O 3 f (nI p) (-1) z) pl)) : wpX_link post (dc_X fa fl fc ml mb lc pr ob im kf N tr lf lr la lb ld lx lab bp bo nd Q O pl) f (nI p) z := by
  have ek : (nI p).toNatClampNeg = p := nI_clamp (by omega)
  refine ⟨vp_in_nI hp (by omega), br_f ?_ (dx_emit hc K)⟩
  rw [ek]; exact h
/-- one line more, kept as it is -/
theorem dc_ST_push {k : Nat} {a b : Int32} (hG : dc_NG fa fc N) (hd : ¬ dc_D ld (Q.2.2.2.2.1 k) = L + 1) (ho : dc_OK fa fc lf ld bp B L N (dc_push O (Q.1 k) (Q.2.1 k) a b (Q.2.2.2.2.1 k)) (S + dc_w ld Q k)) (ha : Q.1 k = 1 → a = Q.2.2.1 k) (htc : dc_tc Q k → dc_tc (dc_push O (Q.1 k) (Q.2.1 k) a b (Q.2.2.2.2.1 k)) O.2.2.2.2.2) :
    dc_ST fa fc lf ld bp B L Q N O S k N (dc_push O (Q.1 k) (Q.2.1 k) a b (Q.2.2.2.2.1 k)) O.2.2.2.2.2 := by
  obtain ⟨e1, e2, e3, e4, e5, e6⟩ := dc_p_at (O := O) (t := Q.1 k) (f := Q.2.1 k) (a := a) (b := b) (x := Q.2.2.2.2.1 k)
  refine ⟨dc_NE_r, hG, Nat.le_add_right _ _, dc_OE_p, ho, Nat.lt_succ_self _, ⟨fun q => absurd q hd, fun _ => ⟨e5, e2⟩⟩, ?_, fun h => ⟨rfl, htc h⟩⟩
  intro t x f _
  refine Iff.trans dc_HM_p ?_
  constructor
  · rintro (g | g)
    · exact Or.inl g
    · refine Or.inr ⟨g.1, fun e => ?_⟩
      rw [← ha (g.1.trans e)]
      exact g.2 e
  · rintro (g | g)
    · exact Or.inl g
    · refine Or.inr ⟨g.1, fun e => ?_⟩
      rw [ha (g.1.trans e)]
      exact g.2 e
theorem dx_carry {post : Int32 → SX → Prop} {k : Nat} (F : dc_BF fc lf ld bp B) (hG : dc_NG fa fc N) (hO : dc_OK fa fc lf ld bp B L N O S) (hc : S + dc_w ld Q k ≤ 256) (hk : k < 256) (hQ : ∀ i, i ≤ k → dc_LW fa fc lf ld bp B (L + 1) N Q i) (hL : ¬ dc_D ld (Q.2.2.2.2.1 k) = L + 1) (hP : dc_PR fc lf ld bp L Q N O pl k)
    (K : ∀ (N' : dc_N) (O' : dc_O) (p : Nat), dc_ST fa fc lf ld bp B L Q N O S k N' O' p → post (nI p) (dc_X fa fl fc ml mb lc pr ob im kf N' tr lf lr la lb ld lx lab bp bo nd Q O' pl)) : wpX_carry post (dc_X fa fl fc ml mb lc pr ob im kf N tr lf lr la lb ld lx lab bp bo nd Q O pl) (nI k) := by
  have hi : vp_in (nI k) 256 := vp_in_nI hk (by omega)
  have ek : (nI k).toNatClampNeg = k := nI_clamp (by omega)
  have hct := dc_OK_ct hO
  have hwp := dc_w_pos (ld := ld) (O := Q) k
  obtain ⟨hB, hD, hV, hT⟩ := hQ k (Nat.le_refl _)
  have hD' : dc_D ld (Q.2.2.2.2.1 k) ≤ L := by omega
  refine ⟨hi, nm_r (congrArg Q.1 ek) ⟨hi, nm_r (congrArg Q.2.1 ek) ⟨hi, nm_r (congrArg Q.2.2.2.2.1 ek) ?_⟩⟩⟩
  rcases hT with ⟨t0, t1, t2⟩ | ⟨t0, t1, x, t2, t3⟩ | ⟨t0, i, j, hi', hj', ei, ej, ai, aj, I1⟩ | ⟨t0, i, hi', ei, hn, hh⟩ | hA
  · -- hypothesis
    have T2 : ¬ Q.1 k = 2 := by rw [t0]; decide
    have T3 : ¬ Q.1 k = 3 := by rw [t0]; decide
    refine br_f T2 (br_f T3 ⟨hi, hi, ?_⟩)
    (try rw [ek])
    refine dx_emit (by omega) (K _ _ _ (dc_ST_push hG hL ?_ (fun _ => rfl) (fun _ => dc_tc_n ?_)))
    · have o := dc_OK_hyp (f := Q.2.1 k) (a := Q.2.2.1 k) (b := Q.2.2.2.1 k) (x := Q.2.2.2.2.1 k) (by omega) hO hB hD' t1 hV t2
      have hw : dc_w ld Q k = 5 * dc_p (dc_D ld (Q.2.2.2.2.1 k) - 1) := by
        exact dc_w_0 t0
      rw [hw, t0]
      exact o
    · rw [dc_p_at.1]; exact T3
  · -- premise
    have T2 : ¬ Q.1 k = 2 := by rw [t0]; decide
    have T3 : ¬ Q.1 k = 3 := by rw [t0]; decide
    refine br_f T2 (br_f T3 ⟨hi, hi, ?_⟩)
    (try rw [ek])
    refine dx_emit (by omega) (K _ _ _ (dc_ST_push hG hL ?_ (fun _ => rfl) (fun _ => dc_tc_n ?_)))
    · have o := dc_OK_prem (f := Q.2.1 k) (b := Q.2.2.2.1 k) (p := x) (by omega) hO F.1 hV t2
      have hw : dc_w ld Q k = 1 := by
        rw [dc_w_1 t0, t1, dc_D_m]; rfl
      rw [hw, t0, t1, t3]
      exact o
    · rw [dc_p_at.1]; exact T3
  · -- modus
    obtain ⟨p, hp1, hp2, hp3⟩ := hP.1 i hi'
    obtain ⟨q, hq1, hq2, hq3⟩ := hP.1 j hj'
    have di := (dc_AN_B' F hB ai).2
    have dj := (dc_AN_B' F hB aj).2
    obtain ⟨a1, a2⟩ := hp3.2 (by omega)
    obtain ⟨b1, b2⟩ := hq3.2 (by omega)
    refine br_t t0 ⟨hi, ?_⟩
    (try rw [ek])
    (try rw [ei])
    refine ⟨vp_in_nI (by omega) (by omega), hi, ?_⟩
    (try rw [ek])
    (try rw [ej])
    refine ⟨vp_in_nI (by omega) (by omega), ?_⟩
    rw [nI_clamp (by omega), nI_clamp (by omega), hp1, hq1]
    refine dx_emit (by omega) (K _ _ _ (dc_ST_push hG hL ?_ (fun e => absurd (t0.symm.trans e) (by decide)) (fun _ => dc_tc_n ?_)))
    · have o := dc_OK_mod (f := Q.2.1 k) (x := Q.2.2.2.2.1 k) (i := p) (j := q) (by omega) hO hB hD' hV hp2 hq2 (by rw [a1]; exact ai) (by rw [b1]; exact aj) (by rw [a2, b2]; exact I1)
      have hw : dc_w ld Q k = dc_p (dc_D ld (Q.2.2.2.2.1 k)) + (dc_p (dc_D ld (Q.2.2.2.2.1 k)) - dc_p (dc_D ld (Q.2.2.2.2.1 i))) + (dc_p (dc_D ld (Q.2.2.2.2.1 k)) - dc_p (dc_D ld (Q.2.2.2.2.1 j))) := by
        rw [dc_w_2 t0, ei, ej, nI_clamp (by omega), nI_clamp (by omega)]
      rw [hw, t0]
      rw [a1, b1] at o
      exact o
    · rw [dc_p_at.1, t0]; decide
  · -- link
    have T2 : ¬ Q.1 k = 2 := by rw [t0]; decide
    obtain ⟨p, hp1, hp2, hp3⟩ := hP.1 i hi'
    refine br_f T2 (br_t t0 ⟨hi, ?_⟩)
    (try rw [ek])
    (try rw [ei])
    refine ⟨vp_in_nI (by omega) (by omega), ?_⟩
    rw [nI_clamp (by omega), hp1]
    have hw : dc_w ld Q k = (dc_p (dc_D ld (Q.2.2.2.2.1 k)) - dc_p (dc_D ld (Q.2.2.2.2.1 i))) + 1 := by
      rw [dc_w_3 t0, ei, nI_clamp (by omega)]
    by_cases hdi : dc_D ld (Q.2.2.2.2.1 i) = L + 1
    · -- it vanishes
      obtain ⟨a1, a2⟩ := hp3.1 hdi
      have g : bp (Q.2.2.2.2.1 i).toNatClampNeg = Q.2.2.2.2.1 k ∧ dc_I fc N 2 (Q.2.1 k) (lf (Q.2.2.2.2.1 i).toNatClampNeg) (Q.2.1 i) := by
        rcases hh with g | g
        · have := (dc_AN_B' F hB g.1).2
          omega
        · exact g.2
      have ef := dc_I_u hG.1 hG.2 a2 g.2
      rw [g.1] at a1
      refine dx_link_e (by omega) a1 (K N O p ⟨dc_NE_r, hG, Nat.le_add_right _ _, dc_OE_r, ⟨hO.1, Nat.le_trans hO.2 (Nat.le_add_right _ _)⟩, hp2, ⟨fun q => absurd q hL, fun _ => ⟨a1, ef⟩⟩, ?_, ?_⟩)
      · intro t x f hm
        exact ⟨Or.inl, fun q => q.resolve_right (dc_LM_no (Or.inr (Or.inr (Or.inl t0))) hm)⟩
      · intro htc
        cases k with
        | zero => omega
        | succ k =>
          rcases htc with h | ⟨h1, h2⟩
          · exact absurd t0 h
          · have := dc_inj (ei.symm.trans h1) (by omega) (by omega)
            subst this
            obtain ⟨p', g1, g2, g3⟩ := hP.2 i rfl h2
            have := dc_inj (hp1.symm.trans g1) (by omega) (by omega)
            subst this
            exact ⟨g2, g3⟩
    · obtain ⟨a1, a2⟩ := hp3.2 hdi
      refine dx_link_n (by omega) (by rw [a1]; exact hn) (by omega) ?_
      have o := dc_OK_link (f := Q.2.1 k) (b := -1) (x := Q.2.2.2.2.1 k) (i := p) (by omega) hO hB hD' hV hp2 (by rw [a1]; exact hn) (by rw [a1, a2]; exact hh)
      rw [a1, ← hw] at o
      have st := dc_ST_push (a := nI p) (b := -1) hG hL (by rw [t0]; exact o) (fun e => absurd (t0.symm.trans e) (by decide)) ?_
      · rw [t0] at st
        exact K _ _ _ st
      · intro htc
        cases k with
        | zero => omega
        | succ k =>
          rcases htc with h | ⟨h1, h2⟩
          · exact absurd t0 h
          · have := dc_inj (ei.symm.trans h1) (by omega) (by omega)
            subst this
            obtain ⟨p', g1, g2, g3⟩ := hP.2 i rfl h2
            have := dc_inj (hp1.symm.trans g1) (by omega) (by omega)
            subst this
            have e := dc_OE_p (O := O) (t := Q.1 (i + 1)) (f := Q.2.1 (i + 1)) (a := nI p) (b := -1) (x := Q.2.2.2.2.1 (i + 1))
            obtain ⟨e1, e2, e3, e4, e5, e6⟩ := dc_p_at (O := O) (t := Q.1 (i + 1)) (f := Q.2.1 (i + 1)) (a := nI p) (b := -1) (x := Q.2.2.2.2.1 (i + 1))
            have g4 := dc_tc_m e p hp2 g3
            rw [← g2] at e3 ⊢
            exact Or.inr ⟨e3, g4⟩
  · -- a scheme
    obtain ⟨T0, T1, T2, T3⟩ := dc_AX_t hA
    refine br_f T2 (br_f T3 ⟨hi, hi, ?_⟩)
    (try rw [ek])
    refine dx_emit (by omega) (K _ _ _ (dc_ST_push hG hL ?_ (fun _ => rfl) (fun _ => dc_tc_n ?_)))
    · have o := dc_OK_ax (t := Q.1 k) (f := Q.2.1 k) (a := Q.2.2.1 k) (b := Q.2.2.2.1 k) (x := Q.2.2.2.2.1 k) (by omega) hO hB hD' hA
      have hw : dc_w ld Q k = dc_p (dc_D ld (Q.2.2.2.2.1 k)) := by
        exact dc_w_o T0 T2 T3
      rw [hw]
      exact o
    · rw [dc_p_at.1]; exact T3
end
end
section
/-! commit and a pass -/
def dc_SQ (O Q : dc_O) (n : Nat) : Prop := ∀ j, j < n → Q.1 j = O.1 j ∧ Q.2.1 j = O.2.1 j ∧ Q.2.2.1 j = O.2.2.1 j ∧ Q.2.2.2.1 j = O.2.2.2.1 j ∧ Q.2.2.2.2.1 j = O.2.2.2.2.1 j
theorem dc_SQ_s {O Q : dc_O} {k : Nat} (h : dc_SQ O Q k) : dc_SQ O (upd Q.1 k (O.1 k), upd Q.2.1 k (O.2.1 k), upd Q.2.2.1 k (O.2.2.1 k), upd Q.2.2.2.1 k (O.2.2.2.1 k), upd Q.2.2.2.2.1 k (O.2.2.2.2.1 k), Q.2.2.2.2.2) (k + 1) := by
  intro j hj
  by_cases e : j = k
  · subst e; exact ⟨pk_us, pk_us, pk_us, pk_us, pk_us⟩
  · obtain ⟨a, b, c, d, f⟩ := h j (by omega)
    exact ⟨(pk_un e).trans a, (pk_un e).trans b, (pk_un e).trans c, (pk_un e).trans d, (pk_un e).trans f⟩
section
variable {fa fl fc ml mb lc pr ob : Nat} {im kf : Int32} {N : dc_N} {tr lf lr la lb ld lx lab bp bo nd pl : Nat → Int32} {Q O : dc_O} {B : Int32 → Prop} {L S : Nat}
theorem dx_commit_l {post : SX → Prop} (hc : O.2.2.2.2.2 ≤ 256) (K : ∀ Q' : dc_O, Q'.2.2.2.2.2 = O.2.2.2.2.2 → dc_SQ O Q' O.2.2.2.2.2 → post (dc_X fa fl fc ml mb lc pr ob im kf N tr lf lr la lb ld lx lab bp bo nd Q' O pl)) : ∀ (n k : Nat) (Q : dc_O), k ≤ O.2.2.2.2.2 → O.2.2.2.2.2 - k < n → dc_SQ O Q k → wX_commit_2 post 7 8 0 1 2 3 4 5 6 7 8 9 32 1024 (nI fa) (nI fl) (nI fc) (nI N.2.2.2) (nI ml) (nI mb) (nI lc) (nI pr) (nI ob) im 256 (nI Q.2.2.2.2.2) kf (nI O.2.2.2.2.2) n (nI k) N.1 N.2.1 N.2.2.1 tr lf lr la lb ld lx lab bp bo nd Q.1 Q.2.1 Q.2.2.1 Q.2.2.2.1 Q.2.2.2.2.1 O.1 O.2.1 O.2.2.1 O.2.2.2.1 O.2.2.2.2.1 pl := by
  intro n
  induction n with
  | zero => intro k Q _ h; omega
  | succ n ih =>
    intro k Q hk hn hs
    refine pk_le O.2.2.2.2.2 k (fun h => ?_) (fun h => ?_)
    · have e : k = O.2.2.2.2.2 := by omega
      subst e
      exact K (Q.1, Q.2.1, Q.2.2.1, Q.2.2.2.1, Q.2.2.2.2.1, O.2.2.2.2.2) rfl hs
    · have hi : vp_in (nI k) 256 := vp_in_nI (by omega) (by omega)
      have ek : (nI k).toNatClampNeg = k := nI_clamp (by omega)
      have g := ih (k + 1) (upd Q.1 k (O.1 k), upd Q.2.1 k (O.2.1 k), upd Q.2.2.1 k (O.2.2.1 k), upd Q.2.2.2.1 k (O.2.2.2.1 k), upd Q.2.2.2.2.1 k (O.2.2.2.2.1 k), Q.2.2.2.2.2) (by omega) (by omega) (dc_SQ_s hs)
      exact ⟨hi, hi, nm_r (congrArg (fun q => upd Q.1 q (O.1 q)) ek) ⟨hi, hi, nm_r (congrArg (fun q => upd Q.2.1 q (O.2.1 q)) ek) ⟨hi, hi, nm_r (congrArg (fun q => upd Q.2.2.1 q (O.2.2.1 q)) ek) ⟨hi, hi, nm_r (congrArg (fun q => upd Q.2.2.2.1 q (O.2.2.2.1 q)) ek) ⟨hi, hi, nm_r (congrArg (fun q => upd Q.2.2.2.2.1 q (O.2.2.2.2.1 q)) ek) (nm_r (nI_1 k) g)⟩⟩⟩⟩⟩
theorem dx_commit {post : SX → Prop} (hc : O.2.2.2.2.2 ≤ 256) (K : ∀ Q' : dc_O, Q'.2.2.2.2.2 = O.2.2.2.2.2 → dc_SQ O Q' O.2.2.2.2.2 → post (dc_X fa fl fc ml mb lc pr ob im kf N tr lf lr la lb ld lx lab bp bo nd Q' O pl)) : wpX_commit post (dc_X fa fl fc ml mb lc pr ob im kf N tr lf lr la lb ld lx lab bp bo nd Q O pl) :=
  ⟨O.2.2.2.2.2 + 1, dx_commit_l hc K (O.2.2.2.2.2 + 1) 0 Q (Nat.zero_le _) (by omega) (fun j hj => absurd hj (by omega))⟩
end
def dc_EL (fa fc : Nat) (lf ld bp : Nat → Int32) (B : Int32 → Prop) (L : Nat) (Q : dc_O) (N0 N : dc_N) (O : dc_O) (pl : Nat → Int32) (k : Nat) : Prop :=
  dc_NE fc fc N0 N ∧ dc_NG fa fc N ∧ dc_OK fa fc lf ld bp B L N O (dc_sm (dc_w ld Q) k) ∧ 5 * N.2.2.2 ≤ 5 * N0.2.2.2 + 6 * dc_sm (dc_w ld Q) k ∧ dc_PR fc lf ld bp L Q N O pl k ∧
  (∀ t x f, dc_MT t → (dc_HM O O.2.2.2.2.2 t x f ↔ dc_HM Q k t x f))
theorem dc_HM_s {Q : dc_O} {k : Nat} {t x f : Int32} : dc_HM Q (k + 1) t x f ↔ (dc_HM Q k t x f ∨ dc_LM Q k t x f) := by
  constructor
  · rintro ⟨j, hj, m⟩
    by_cases e : j = k
    · subst e; exact Or.inr m
    · exact Or.inl ⟨j, by omega, m⟩
  · rintro (⟨j, hj, m⟩ | m)
    · exact ⟨j, by omega, m⟩
    · exact ⟨k, by omega, m⟩
section
variable {fa fl fc ml mb lc pr ob : Nat} {im kf : Int32} {N N0 : dc_N} {tr lf lr la lb ld lx lab bp bo nd pl : Nat → Int32} {Q O : dc_O} {B : Int32 → Prop} {L S : Nat}
theorem dc_EL_s {k p : Nat} {N' : dc_N} {O' : dc_O} (h : dc_EL fa fc lf ld bp B L Q N0 N O pl k) (st : dc_ST fa fc lf ld bp B L Q N O (dc_sm (dc_w ld Q) k) k N' O' p) : dc_EL fa fc lf ld bp B L Q N0 N' O' (upd pl k (nI p)) (k + 1) := by
  obtain ⟨h1, h2, h3, h4, h5, h6⟩ := h
  obtain ⟨s1, s2, s3, s4, s5, s6, s7, s8, s9⟩ := st
  refine ⟨dc_NE_t h1 s1, s2, s5, ?_, ⟨?_, ?_⟩, ?_⟩
  · show 5 * N'.2.2.2 ≤ 5 * N0.2.2.2 + 6 * (dc_sm (dc_w ld Q) k + dc_w ld Q k)
    omega
  · intro i hi
    by_cases e : i = k
    · subst e
      exact ⟨p, pk_us, s6, s7⟩
    · obtain ⟨q, q1, q2, q3⟩ := h5.1 i (by omega)
      exact ⟨q, (pk_un e).trans q1, Nat.lt_of_lt_of_le q2 s4.1, dc_PLC_m s1 s4 q2 q3⟩
  · intro i hi htc
    have e : i = k := by omega
    subst e
    obtain ⟨g1, g2⟩ := s9 htc
    exact ⟨p, pk_us, g1, g2⟩
  · intro t x f hm
    rw [s8 t x f hm, h6 t x f hm, dc_HM_s]
theorem dx_elim_l {post : SX → Prop} (F : dc_BF fc lf ld bp B) (hQ : ∀ i, i < Q.2.2.2.2.2 → dc_LW fa fc lf ld bp B (L + 1) N0 Q i) (hL3 : L < 3) (hc : Q.2.2.2.2.2 ≤ 256) (hS : dc_sm (dc_w ld Q) Q.2.2.2.2.2 ≤ 224) (ht : N0.2.2.2 ≤ 750)
    (K : ∀ (N : dc_N) (O : dc_O) (pl : Nat → Int32) (Q' : dc_O), dc_EL fa fc lf ld bp B L Q N0 N O pl Q.2.2.2.2.2 → Q'.2.2.2.2.2 = O.2.2.2.2.2 → dc_SQ O Q' O.2.2.2.2.2 → post (dc_X fa fl fc ml mb lc pr ob im kf N tr lf lr la lb ld lx lab bp bo nd Q' O pl)) :
    ∀ (n k : Nat) (N : dc_N) (O : dc_O) (pl : Nat → Int32), k ≤ Q.2.2.2.2.2 → Q.2.2.2.2.2 - k < n → dc_EL fa fc lf ld bp B L Q N0 N O pl k → wX_eliminate_7 post (nI (L + 1)) n (nI k) 7 8 0 1 2 3 4 5 6 7 8 9 32 1024 (nI fa) (nI fl) (nI fc) (nI N.2.2.2) (nI ml) (nI mb) (nI lc) (nI pr) (nI ob) im 256 (nI Q.2.2.2.2.2) kf (nI O.2.2.2.2.2) N.1 N.2.1 N.2.2.1 tr lf lr la lb ld lx lab bp bo nd Q.1 Q.2.1 Q.2.2.1 Q.2.2.2.1 Q.2.2.2.2.1 O.1 O.2.1 O.2.2.1 O.2.2.2.1 O.2.2.2.2.1 pl := by
  intro n
  induction n with
  | zero => intro k N O pl _ h; omega
  | succ n ih =>
    intro k N O pl hk hn hE
    have hE' := hE
    obtain ⟨h1, h2, h3, h4, h5, h6⟩ := hE'
    have hct := dc_OK_ct h3
    have hs1 := dc_sm_le (w := dc_w ld Q) hk
    refine pk_le Q.2.2.2.2.2 k (fun h => ?_) (fun h => ?_)
    · have e : k = Q.2.2.2.2.2 := by omega
      subst e
      exact dx_commit (by omega) (fun Q' e1 e2 => K N O pl Q' hE e1 e2)
    · have hi : vp_in (nI k) 256 := vp_in_nI (by omega) (by omega)
      have ek : (nI k).toNatClampNeg = k := nI_clamp (by omega)
      have hs2 := dc_sm_le (w := dc_w ld Q) (a := k + 1) (b := Q.2.2.2.2.2) h
      have hs3 : dc_sm (dc_w ld Q) (k + 1) = dc_sm (dc_w ld Q) k + dc_w ld Q k := rfl
      have hQ' : ∀ i, i ≤ k → dc_LW fa fc lf ld bp B (L + 1) N Q i := fun i hi => dc_LW_m h1 dc_OE_r (by omega) (hQ i (by omega))
      have hB := (hQ k h).1
      have KK : ∀ (N' : dc_N) (O' : dc_O) (p : Nat), dc_ST fa fc lf ld bp B L Q N O (dc_sm (dc_w ld Q) k) k N' O' p → vp_in (nI k) 256 ∧ ∀ pl', pl' = upd pl (nI k).toNatClampNeg (nI p) → ∀ x2, x2 = nI k + 1 → wX_eliminate_7 post (nI (L + 1)) n x2 7 8 0 1 2 3 4 5 6 7 8 9 32 1024 (nI fa) (nI fl) (nI fc) (nI N'.2.2.2) (nI ml) (nI mb) (nI lc) (nI pr) (nI ob) im 256 (nI Q.2.2.2.2.2) kf (nI O'.2.2.2.2.2) N'.1 N'.2.1 N'.2.2.1 tr lf lr la lb ld lx lab bp bo nd Q.1 Q.2.1 Q.2.2.1 Q.2.2.2.1 Q.2.2.2.2.1 O'.1 O'.2.1 O'.2.2.1 O'.2.2.2.1 O'.2.2.2.2.1 pl' := by
        intro N' O' p st
        exact ⟨hi, nm_r (congrArg (fun q => upd pl q (nI p)) ek) (nm_r (nI_1 k) (ih (k + 1) N' O' _ h (by omega) (dc_EL_s hE st)))⟩
      refine ⟨hi, nm_r (congrArg Q.2.2.2.2.1 ek) ?_⟩
      by_cases hb : Q.2.2.2.2.1 k = -1
      · refine br_t (by rw [hb]; exact dc_n1) (br_t rfl ?_)
        exact dx_carry F h2 h3 (by omega) (by omega) hQ' (by rw [hb, dc_D_m]; omega) h5 KK
      · obtain ⟨m, d, g, q1, q2, q3, q4, q5, q6, q7, q8, q9⟩ := dc_B_n F hB hb
        refine br_f (by rw [q2]; exact nI_pos (by omega)) ⟨(dc_B_up F hB hb).2.2.2, ?_⟩
        have eld : ld (Q.2.2.2.2.1 k).toNatClampNeg = nI (d + 1) := by rw [q2, nI_clamp (by omega)]; exact q3
        rw [eld]
        by_cases hd : d = L
        · subst hd
          refine br_t rfl (br_f dc_10 ?_)
          exact dx_lower F h2 h3 (by omega) (by omega) (by omega) hQ' q9 h5 KK
        · refine br_f (fun e => hd (by have := dc_inj e (by omega) (by omega); omega)) (br_t rfl ?_)
          exact dx_carry F h2 h3 (by omega) (by omega) hQ' (by omega) h5 KK
end
end
section
/-! a whole pass -/
def dc_PF (fa fc : Nat) (lf ld bp : Nat → Int32) (B : Int32 → Prop) (f0 : Int32) (M : Int32 → Int32 → Int32 → Prop) (L : Nat) (N : dc_N) (Q : dc_O) : Prop :=
  dc_NG fa fc N ∧ dc_OK fa fc lf ld bp B L N Q 224 ∧ (∃ p : Nat, Q.2.2.2.2.2 = p + 1 ∧ dc_tc Q p ∧ Q.2.1 p = f0 ∧ Q.2.2.2.2.1 p = -1) ∧ (∀ t x f, dc_MT t → (dc_HM Q Q.2.2.2.2.2 t x f ↔ M t x f))
theorem dc_SQ_OE {O Q : dc_O} (e : Q.2.2.2.2.2 = O.2.2.2.2.2) (h : dc_SQ O Q O.2.2.2.2.2) : dc_OE O Q := ⟨Nat.le_of_eq e.symm, h⟩
theorem dc_OK_c {fa fc L S : Nat} {lf ld bp : Nat → Int32} {B : Int32 → Prop} {N : dc_N} {O Q : dc_O} (hc : O.2.2.2.2.2 ≤ 256) (e : Q.2.2.2.2.2 = O.2.2.2.2.2) (h : dc_SQ O Q O.2.2.2.2.2) (ok : dc_OK fa fc lf ld bp B L N O S) : dc_OK fa fc lf ld bp B L N Q S := by
  have oe := dc_SQ_OE e h
  refine ⟨fun k hk => ?_, ?_⟩
  · rw [e] at hk
    exact dc_LW_m dc_NE_r oe hk (ok.1 k hk)
  · rw [e, dc_sm_eq (fun k hk => dc_w_m hc oe hk (ok.1 k hk))]
    exact ok.2
theorem dc_HM_c {O Q : dc_O} (e : Q.2.2.2.2.2 = O.2.2.2.2.2) (h : dc_SQ O Q O.2.2.2.2.2) {t x f : Int32} (hm : dc_MT t) : dc_HM Q Q.2.2.2.2.2 t x f ↔ dc_HM O O.2.2.2.2.2 t x f :=
  dc_HM_nu (dc_SQ_OE e h) (fun k h1 h2 => absurd h2 (by omega)) hm
section
variable {fa fl fc ml mb lc pr ob : Nat} {im kf : Int32} {N : dc_N} {tr lf lr la lb ld lx lab bp bo nd pl : Nat → Int32} {Q O : dc_O} {B : Int32 → Prop} {L S : Nat} {f0 : Int32} {M : Int32 → Int32 → Int32 → Prop}
theorem dx_elim {post : SX → Prop} (F : dc_BF fc lf ld bp B) (hL3 : L < 3) (h : dc_PF fa fc lf ld bp B f0 M (L + 1) N Q) (ht : N.2.2.2 ≤ 750)
    (K : ∀ (N' : dc_N) (O' : dc_O) (pl' : Nat → Int32) (Q' : dc_O), dc_PF fa fc lf ld bp B f0 M L N' Q' → N'.2.2.2 ≤ N.2.2.2 + 269 → dc_NE fc fc N N' → post (dc_X fa fl fc ml mb lc pr ob im kf N' tr lf lr la lb ld lx lab bp bo nd Q' O' pl')) : wpX_eliminate post (dc_X fa fl fc ml mb lc pr ob im kf N tr lf lr la lb ld lx lab bp bo nd Q O pl) (nI (L + 1)) := by
  obtain ⟨g1, g2, ⟨p, p1, p2, p3, p4⟩, g4⟩ := h
  have hct := dc_OK_ct g2
  refine ⟨Q.2.2.2.2.2 + 1, dx_elim_l (B := B) (N0 := N) F g2.1 hL3 (by omega) g2.2 ht ?_ (Q.2.2.2.2.2 + 1) 0 N (O.1, O.2.1, O.2.2.1, O.2.2.2.1, O.2.2.2.2.1, 0) pl (Nat.zero_le _) (by omega) ?_⟩
  · intro N' O' pl' Q' E e1 e2
    obtain ⟨h1, h2, h3, h4, h5, h6⟩ := E
    have hs := g2.2
    have hct' := dc_OK_ct h3
    refine K N' O' pl' Q' ⟨h2, dc_OK_c (by omega) e1 e2 ⟨h3.1, Nat.le_trans h3.2 hs⟩, ?_, ?_⟩ (by omega) h1
    · obtain ⟨q, q1, q2, q3⟩ := h5.2 p p1.symm p2
      obtain ⟨q', r1, r2, r3⟩ := h5.1 p (by omega)
      have := dc_inj (q1.symm.trans r1) (by omega) (by omega)
      subst this
      obtain ⟨v1, v2⟩ := r3.2 (by rw [p4, dc_D_m]; omega)
      obtain ⟨w1, w2, w3, w4, w5⟩ := e2 q r2
      exact ⟨q, by omega, dc_tc_m (dc_SQ_OE e1 e2) q r2 q3, by rw [w2, v2, p3], by rw [w5, v1, p4]⟩
    · intro t x f hm
      rw [dc_HM_c e1 e2 hm, h6 t x f hm, g4 t x f hm]
  · refine ⟨dc_NE_r, g1, ⟨fun k hk => absurd hk (Nat.not_lt_zero _), (by show 0 ≤ _; exact Nat.zero_le _)⟩, Nat.le_add_right _ _, ⟨fun i hi => absurd hi (Nat.not_lt_zero _), fun i hi => by omega⟩, fun t x f _ => ?_⟩
    exact ⟨fun ⟨k, hk, _⟩ => absurd hk (Nat.not_lt_zero _), fun ⟨k, hk, _⟩ => absurd hk (Nat.not_lt_zero _)⟩
end
end
section
/-! the boxed proof: facts of its lines, one by one -/
def dc_pb (lx : Nat → Int32) : Nat → Int32
  | 0 => -1
  | n + 1 => lx n
def dc_d (ld : Nat → Int32) (n : Nat) : Nat := (ld n).toNatClampNeg
def dc_pd (ld : Nat → Int32) : Nat → Nat
  | 0 => 0
  | n + 1 => dc_d ld n
def dc_np (lr : Nat → Int32) : Nat → Nat
  | 0 => 0
  | n + 1 => dc_np lr n + (if lr n = 7 then 1 else 0)
def dc_J (fc : Nat) (N : dc_N) (k f a b : Int32) : Prop := ∃ n : Nat, f = nI n ∧ n < fc ∧ N.1 n = k ∧ N.2.1 n = a ∧ N.2.2.1 n = b
def dc_ci (ld : Nat → Int32) (i n : Nat) : Prop := i < n ∧ ∀ k, i < k → k ≤ n → dc_d ld i ≤ dc_d ld k
/-- lines that are inferred -/
def dc_LI (fc : Nat) (N : dc_N) (lf lr la lb ld : Nat → Int32) (n : Nat) : Prop :=
  ∃ i : Nat, la n = nI i ∧ dc_ci ld i n ∧
   ((lr n = 0 ∧ lb n = -1 ∧ lf i = lf n) ∨
    (lr n = 3 ∧ lb n = -1 ∧ ∃ r, dc_J fc N 3 (lf i) (lf n) r) ∨
    (lr n = 4 ∧ lb n = -1 ∧ ∃ l, dc_J fc N 3 (lf i) l (lf n)) ∨
    (∃ j : Nat, lb n = nI j ∧ dc_ci ld j n ∧ ((lr n = 1 ∧ dc_J fc N 2 (lf i) (lf j) (lf n)) ∨ (lr n = 2 ∧ dc_J fc N 3 (lf n) (lf i) (lf j)))))
/-- lines that close a box -/
def dc_LC (fa fc : Nat) (N : dc_N) (lf lr la lb ld lx bp : Nat → Int32) (n : Nat) : Prop :=
  ∃ m b : Nat, n = m + 1 ∧ la n = nI m ∧ lb n = -1 ∧ b ≤ m ∧ lx m = nI b ∧ lx n = bp b ∧ dc_d ld n + 1 = dc_d ld m ∧
   ((lr n = 5 ∧ dc_J fc N 2 (lf n) (lf b) (lf m)) ∨ (lr n = 6 ∧ lf m = nI fa ∧ dc_J fc N 2 (lf b) (lf n) (nI fa)))
def dc_LL (fa fc : Nat) (N : dc_N) (lf lr la lb ld lx lab bp : Nat → Int32) (n : Nat) : Prop :=
  (∃ f : Nat, lf n = nI f ∧ f < fc) ∧ ld n = nI (dc_d ld n) ∧ dc_d ld n ≤ 3 ∧
  ((lr n = 7 ∧ la n = -1 ∧ lb n = -1 ∧ dc_pb lx n = -1 ∧ lx n = -1 ∧ dc_d ld n = 0 ∧ lab n = nI (dc_np lr n) ∧ dc_np lr n < 8) ∨
   (lr n = 8 ∧ la n = -1 ∧ lb n = -1 ∧ lx n = nI n ∧ bp n = dc_pb lx n ∧ dc_d ld n = dc_pd ld n + 1) ∨
   (lx n = dc_pb lx n ∧ dc_d ld n = dc_pd ld n ∧ dc_LI fc N lf lr la lb ld n) ∨
   dc_LC fa fc N lf lr la lb ld lx bp n)
def dc_SB (lr ld lx : Nat → Int32) (n : Nat) : Prop :=
  (lx n = -1 ∧ dc_d ld n = 0) ∨ ∃ b : Nat, b ≤ n ∧ lx n = nI b ∧ lr b = 8 ∧ dc_d ld b = dc_d ld n ∧ 1 ≤ dc_d ld n ∧ ∀ k, b < k → k ≤ n → dc_d ld b ≤ dc_d ld k
def dc_B (lr : Nat → Int32) (lc : Nat) (x : Int32) : Prop := x = -1 ∨ ∃ b : Nat, b < lc ∧ x = nI b ∧ lr b = 8
theorem dc_LI_r {fc : Nat} {N : dc_N} {lf lr la lb ld : Nat → Int32} {n : Nat} (h : dc_LI fc N lf lr la lb ld n) : lr n = 0 ∨ lr n = 1 ∨ lr n = 2 ∨ lr n = 3 ∨ lr n = 4 := by
  obtain ⟨i, _, _, h | h | h | ⟨j, _, _, h | h⟩⟩ := h
  · exact Or.inl h.1
  · exact Or.inr (Or.inr (Or.inr (Or.inl h.1)))
  · exact Or.inr (Or.inr (Or.inr (Or.inr h.1)))
  · exact Or.inr (Or.inl h.1)
  · exact Or.inr (Or.inr (Or.inl h.1))
theorem dc_LC_r {fa fc : Nat} {N : dc_N} {lf lr la lb ld lx bp : Nat → Int32} {n : Nat} (h : dc_LC fa fc N lf lr la lb ld lx bp n) : lr n = 5 ∨ lr n = 6 := by
  obtain ⟨m, b, _, _, _, _, _, _, _, h | h⟩ := h
  · exact Or.inl h.1
  · exact Or.inr h.1
section
variable {fa fc lc : Nat} {N : dc_N} {lf lr la lb ld lx lab bp : Nat → Int32}
/-- a line with rule 8 opens a box -/
theorem dc_LL_8 {n : Nat} (h : dc_LL fa fc N lf lr la lb ld lx lab bp n) (h8 : lr n = 8) : lx n = nI n ∧ bp n = dc_pb lx n ∧ dc_d ld n = dc_pd ld n + 1 := by
  rcases h.2.2.2 with g | g | g | g
  · exact absurd (g.1.symm.trans h8) (by decide)
  · exact g.2.2.2
  · rcases dc_LI_r g.2.2 with e | e | e | e | e <;> exact absurd (e.symm.trans h8) (by decide)
  · rcases dc_LC_r g with e | e <;> exact absurd (e.symm.trans h8) (by decide)
theorem dc_SB_all (hl : lc ≤ 32) (H : ∀ n, n < lc → dc_LL fa fc N lf lr la lb ld lx lab bp n) : ∀ n, n < lc → dc_SB lr ld lx n := by
  intro n
  induction n using Nat.strongRecOn with
  | _ n ih =>
    intro hn
    have hL := H n hn
    rcases hL.2.2.2 with g | g | g | g
    · exact Or.inl ⟨g.2.2.2.2.1, g.2.2.2.2.2.1⟩
    · obtain ⟨g1, g2, g3, g4, g5, g6⟩ := g
      exact Or.inr ⟨n, Nat.le_refl _, g4, g1, rfl, by omega, fun k h1 h2 => by omega⟩
    · obtain ⟨g1, g2, g3⟩ := g
      cases n with
      | zero => exact Or.inl ⟨g1, g2⟩
      | succ m =>
        have g1' : lx (m + 1) = lx m := g1
        have g2' : dc_d ld (m + 1) = dc_d ld m := g2
        rcases ih m (Nat.lt_succ_self _) (by omega) with s | ⟨b, s1, s2, s3, s4, s5, s6⟩
        · exact Or.inl ⟨g1'.trans s.1, by omega⟩
        · refine Or.inr ⟨b, by omega, g1'.trans s2, s3, by omega, by omega, fun k h1 h2 => ?_⟩
          by_cases e : k = m + 1
          · subst e; omega
          · exact s6 k h1 (by omega)
    · obtain ⟨m, b, g1, g2, g3, g4, g5, g6, g7, g8⟩ := g
      subst g1
      rcases ih m (Nat.lt_succ_self _) (by omega) with s | ⟨c, s1, s2, s3, s4, s5, s6⟩
      · exact absurd (g5.symm.trans s.1) (dc_ne1 (by omega))
      · have := dc_inj (g5.symm.trans s2) (by omega) (by omega)
        subst this
        obtain ⟨q1, q2, q3⟩ := dc_LL_8 (H b (by omega)) s3
        rw [q2] at g6
        cases b with
        | zero =>
          have q3' : dc_d ld 0 = 0 + 1 := q3
          exact Or.inl ⟨g6, by omega⟩
        | succ b =>
          have g6' : lx (m + 1) = lx b := g6
          have q3' : dc_d ld (b + 1) = dc_d ld b + 1 := q3
          rcases ih b (by omega) (by omega) with t | ⟨c, t1, t2, t3, t4, t5, t6⟩
          · exact Or.inl ⟨g6'.trans t.1, by omega⟩
          · refine Or.inr ⟨c, by omega, g6'.trans t2, t3, by omega, by omega, fun k h1 h2 => ?_⟩
            by_cases e1 : k ≤ b
            · exact t6 k h1 e1
            · by_cases e2 : k = b + 1
              · subst e2; omega
              · by_cases e3 : k = m + 1
                · subst e3; omega
                · have := s6 k (by omega) (by omega)
                  omega
theorem dc_SB_D (hl : lc ≤ 32) (H : ∀ n, n < lc → dc_LL fa fc N lf lr la lb ld lx lab bp n) {n : Nat} (hn : n < lc) : dc_B lr lc (lx n) ∧ dc_D ld (lx n) = dc_d ld n := by
  rcases dc_SB_all hl H n hn with s | ⟨b, s1, s2, s3, s4, s5, s6⟩
  · rw [s.1, dc_D_m]
    exact ⟨Or.inl rfl, s.2.symm⟩
  · rw [s2]
    have hb := H b (by omega)
    refine ⟨Or.inr ⟨b, by omega, rfl, s3⟩, ?_⟩
    rw [dc_D_n (d := dc_d ld b) (by omega) hb.2.1 (by have := hb.2.2.1; omega)]
    exact s4
theorem dc_BF_all (hl : lc ≤ 32) (H : ∀ n, n < lc → dc_LL fa fc N lf lr la lb ld lx lab bp n) : dc_BF fc lf ld bp (dc_B lr lc) := by
  refine ⟨Or.inl rfl, fun x hx => ?_⟩
  rcases hx with e | ⟨b, hb, e, h8⟩
  · exact Or.inl e
  · refine Or.inr ?_
    have hL := H b hb
    obtain ⟨q1, q2, q3⟩ := dc_LL_8 hL h8
    obtain ⟨f, f1, f2⟩ := hL.1
    have hd := hL.2.1
    rw [q3] at hd
    have h3 := hL.2.2.1
    have hp : dc_B lr lc (bp b) ∧ dc_D ld (bp b) = dc_pd ld b := by
      rw [q2]
      cases b with
      | zero => exact ⟨Or.inl rfl, dc_D_m ld⟩
      | succ b => exact dc_SB_D hl H (by omega)
    exact ⟨b, dc_pd ld b, f, by omega, e, hd, by omega, hp.1, hp.2, f2, f1⟩
/-- a line that may be cited lies in a box around -/
theorem dc_ci_AN (hl : lc ≤ 32) (H : ∀ n, n < lc → dc_LL fa fc N lf lr la lb ld lx lab bp n) {i : Nat} : ∀ n, i ≤ n → n < lc → (∀ k, i < k → k ≤ n → dc_d ld i ≤ dc_d ld k) → dc_AN ld bp (lx i) (lx n) := by
  have F := dc_BF_all hl H
  intro n
  induction n with
  | zero =>
    intro h1 h2 h3
    have e : i = 0 := by omega
    subst e
    exact dc_AN_r _
  | succ m ih =>
    intro h1 h2 h3
    by_cases e : i = m + 1
    · subst e; exact dc_AN_r _
    · have ih' := ih (by omega) (by omega) (fun k a b => h3 k a (by omega))
      have hm := dc_SB_D hl H (n := m) (by omega)
      have hi := dc_SB_D hl H (n := i) (by omega)
      have hL := H (m + 1) h2
      rcases hL.2.2.2 with g | g | g | g
      · obtain ⟨g1, g2, g3, g4, g5, g6, g7⟩ := g
        have g4' : lx m = -1 := g4
        rw [g5, ← g4']; exact ih'
      · obtain ⟨g1, g2, g3, g4, g5, g6⟩ := g
        have g5' : bp (m + 1) = lx m := g5
        have hB := (dc_SB_D hl H h2).1
        rw [g4] at hB ⊢
        rw [dc_AN_up F hB (dc_ne1 (by omega)), nI_clamp (by omega), g5']
        exact Or.inr ih'
      · have g1 : lx (m + 1) = lx m := g.1
        rw [g1]; exact ih'
      · obtain ⟨m', b, g1, g2, g3, g4, g5, g6, g7, g8⟩ := g
        have : m' = m := by omega
        subst this
        have hne : ¬ lx i = lx m' := by
          intro e
          have := h3 (m' + 1) (by omega) (Nat.le_refl _)
          have e1 := hi.2
          rw [e, hm.2] at e1
          omega
        have s := (dc_AN_s F hm.1 ih' hne).2.1
        rw [g5, nI_clamp (by omega)] at s
        rw [g6]; exact s
end
end
section
/-! the source lines turned to lines of a proof -/
def dc_ow (r : Int32) (d : Nat) : Nat :=
  if r = 7 then 1 else if r = 0 then 0 else if r = 5 then 0 else if r = 8 then 5 * dc_p (d - 1) else if r = 1 then dc_p d else if r = 2 then 3 * dc_p d else 2 * dc_p d
theorem dc_ow_7 (d : Nat) : dc_ow 7 d = 1 := if_pos rfl
theorem dc_ow_0 (d : Nat) : dc_ow 0 d = 0 := (if_neg (by decide)).trans (if_pos rfl)
theorem dc_ow_5 (d : Nat) : dc_ow 5 d = 0 := (if_neg (by decide)).trans ((if_neg (by decide)).trans (if_pos rfl))
theorem dc_ow_8 (d : Nat) : dc_ow 8 d = 5 * dc_p (d - 1) := (if_neg (by decide)).trans ((if_neg (by decide)).trans ((if_neg (by decide)).trans (if_pos rfl)))
theorem dc_ow_1 (d : Nat) : dc_ow 1 d = dc_p d := (if_neg (by decide)).trans ((if_neg (by decide)).trans ((if_neg (by decide)).trans ((if_neg (by decide)).trans (if_pos rfl))))
theorem dc_ow_2 (d : Nat) : dc_ow 2 d = 3 * dc_p d := (if_neg (by decide)).trans ((if_neg (by decide)).trans ((if_neg (by decide)).trans ((if_neg (by decide)).trans ((if_neg (by decide)).trans (if_pos rfl)))))
theorem dc_ow_3 (d : Nat) : dc_ow 3 d = 2 * dc_p d := (if_neg (by decide)).trans ((if_neg (by decide)).trans ((if_neg (by decide)).trans ((if_neg (by decide)).trans ((if_neg (by decide)).trans (if_neg (by decide))))))
theorem dc_ow_4 (d : Nat) : dc_ow 4 d = 2 * dc_p d := (if_neg (by decide)).trans ((if_neg (by decide)).trans ((if_neg (by decide)).trans ((if_neg (by decide)).trans ((if_neg (by decide)).trans (if_neg (by decide))))))
theorem dc_ow_6 (d : Nat) : dc_ow 6 d = 2 * dc_p d := (if_neg (by decide)).trans ((if_neg (by decide)).trans ((if_neg (by decide)).trans ((if_neg (by decide)).trans ((if_neg (by decide)).trans (if_neg (by decide))))))
def dc_cw (ld : Nat → Int32) (c : Int32) (d : Nat) : Nat := if c < 0 then 0 else dc_p d - dc_p (dc_d ld c.toNatClampNeg)
def dc_wl (lr la lb ld : Nat → Int32) (k : Nat) : Nat := dc_ow (lr k) (dc_d ld k) + dc_cw ld (la k) (dc_d ld k) + dc_cw ld (lb k) (dc_d ld k)
theorem dc_cw_m (ld : Nat → Int32) (d : Nat) : dc_cw ld (-1) d = 0 := if_pos dc_n1
theorem dc_cw_n {ld : Nat → Int32} {i d : Nat} (h : i < 32) : dc_cw ld (nI i) d = dc_p d - dc_p (dc_d ld i) := by
  unfold dc_cw
  rw [if_neg (nI_pos (by omega)), nI_clamp (by omega)]
def dc_SM (lf lr lab : Nat → Int32) (m : Nat) (t x f : Int32) : Prop :=
  (t = 1 ∧ lr m = 7 ∧ lab m = x ∧ lf m = f) ∨ (t = 6 ∧ lr m = 6) ∨ (t = 7 ∧ lr m = 3) ∨ (t = 8 ∧ lr m = 4) ∨ (t = 9 ∧ lr m = 2)
theorem dc_SM_no {lf lr lab : Nat → Int32} {m : Nat} {t x f : Int32} (h : lr m = 0 ∨ lr m = 1 ∨ lr m = 5 ∨ lr m = 8) : ¬ dc_SM lf lr lab m t x f := by
  rintro (⟨_, e, _⟩ | ⟨_, e⟩ | ⟨_, e⟩ | ⟨_, e⟩ | ⟨_, e⟩) <;> rcases h with g | g | g | g <;> exact absurd (g.symm.trans e) (by decide)
theorem dc_SM_7 {lf lr lab : Nat → Int32} {m : Nat} {t x f : Int32} (h : lr m = 7) : dc_SM lf lr lab m t x f ↔ (1 = t ∧ (t = 1 → lab m = x ∧ lf m = f)) := by
  constructor
  · rintro (⟨e, _, e1, e2⟩ | ⟨_, e⟩ | ⟨_, e⟩ | ⟨_, e⟩ | ⟨_, e⟩)
    · exact ⟨e.symm, fun _ => ⟨e1, e2⟩⟩
    all_goals exact absurd (h.symm.trans e) (by decide)
  · rintro ⟨e, g⟩
    exact Or.inl ⟨e.symm, h, g e.symm⟩
theorem dc_SM_6 {lf lr lab : Nat → Int32} {m : Nat} {t x f : Int32} (h : lr m = 6) : dc_SM lf lr lab m t x f ↔ 6 = t := by
  constructor
  · rintro (⟨_, e, _⟩ | ⟨g, e⟩ | ⟨g, e⟩ | ⟨g, e⟩ | ⟨g, e⟩) <;> first | exact g.symm | exact absurd (h.symm.trans e) (by decide)
  · intro e; exact Or.inr (Or.inl ⟨e.symm, h⟩)
theorem dc_SM_3 {lf lr lab : Nat → Int32} {m : Nat} {t x f : Int32} (h : lr m = 3) : dc_SM lf lr lab m t x f ↔ 7 = t := by
  constructor
  · rintro (⟨_, e, _⟩ | ⟨g, e⟩ | ⟨g, e⟩ | ⟨g, e⟩ | ⟨g, e⟩) <;> first | exact absurd (h.symm.trans e) (by decide) | exact g.symm
  · intro e; exact Or.inr (Or.inr (Or.inl ⟨e.symm, h⟩))
theorem dc_SM_4 {lf lr lab : Nat → Int32} {m : Nat} {t x f : Int32} (h : lr m = 4) : dc_SM lf lr lab m t x f ↔ 8 = t := by
  constructor
  · rintro (⟨_, e, _⟩ | ⟨g, e⟩ | ⟨g, e⟩ | ⟨g, e⟩ | ⟨g, e⟩) <;> first | exact absurd (h.symm.trans e) (by decide) | exact g.symm
  · intro e; exact Or.inr (Or.inr (Or.inr (Or.inl ⟨e.symm, h⟩)))
theorem dc_SM_2 {lf lr lab : Nat → Int32} {m : Nat} {t x f : Int32} (h : lr m = 2) : dc_SM lf lr lab m t x f ↔ 9 = t := by
  constructor
  · rintro (⟨_, e, _⟩ | ⟨g, e⟩ | ⟨g, e⟩ | ⟨g, e⟩ | ⟨g, e⟩) <;> first | exact absurd (h.symm.trans e) (by decide) | exact g.symm
  · intro e; exact Or.inr (Or.inr (Or.inr (Or.inr ⟨e.symm, h⟩)))
theorem dc_HM_g {O O' : dc_O} {t0 t x f : Int32} (e : dc_OE O O') (n1 : ¬ t0 = 1) (h : ∀ k, O.2.2.2.2.2 ≤ k → k < O'.2.2.2.2.2 → O'.1 k = t0 ∨ O'.1 k = 2 ∨ O'.1 k = 3) (h0 : ∃ k, k < O'.2.2.2.2.2 ∧ O'.1 k = t0) (hm : dc_MT t) : dc_HM O' O'.2.2.2.2.2 t x f ↔ (dc_HM O O.2.2.2.2.2 t x f ∨ t0 = t) := by
  constructor
  · rintro ⟨k, hk, m⟩
    by_cases q : k < O.2.2.2.2.2
    · exact Or.inl ⟨k, q, (dc_LM_m e q t x f).mp m⟩
    · have m1 : O'.1 k = t := m.1
      rcases h k (by omega) hk with g | g | g
      · exact Or.inr (g.symm.trans m1)
      all_goals
        rw [g] at m1
        subst m1
        rcases hm with z | z | z | z | z <;> exact absurd z (by decide)
  · rintro (⟨k, hk, m⟩ | g)
    · exact ⟨k, Nat.lt_of_lt_of_le hk e.1, (dc_LM_m e hk t x f).mpr m⟩
    · obtain ⟨k, h1, h2⟩ := h0
      exact ⟨k, h1, h2.trans g, fun z => absurd (g.trans z) n1⟩
theorem dc_J_I {fc : Nat} {N : dc_N} {k f a b : Int32} (h : dc_J fc N k f a b) : dc_I fc N k f a b := by
  obtain ⟨n, e, h, r⟩ := h
  exact ⟨n, e, Or.inl h, r⟩
theorem dc_J_m {fc fc' : Nat} {N N' : dc_N} (hN : dc_NE fc fc' N N') {k f a b : Int32} (h : dc_J fc N k f a b) : dc_J fc' N' k f a b := by
  obtain ⟨n, e, h, r1, r2, r3⟩ := h
  obtain ⟨a1, a2, a3⟩ := hN.2.2 n (Or.inl h)
  exact ⟨n, e, Nat.lt_of_lt_of_le h hN.1, a1.trans r1, a2.trans r2, a3.trans r3⟩
/-- the outcome of one source line -/
def dc_XS (fa fc : Nat) (lf lr la lb ld lx lab bp : Nat → Int32) (B : Int32 → Prop) (N : dc_N) (O : dc_O) (pl : Nat → Int32) (S m : Nat) (N' : dc_N) (O' : dc_O) (p : Nat) : Prop :=
  dc_NE fc fc N N' ∧ dc_NG fa fc N' ∧ N'.2.2.2 ≤ N.2.2.2 + 3 ∧ dc_OE O O' ∧ dc_OK fa fc lf ld bp B 3 N' O' (S + (dc_wl lr la lb ld m + 1)) ∧ p < O'.2.2.2.2.2 ∧ O'.2.2.2.2.1 p = lx m ∧ O'.2.1 p = lf m ∧
  (∀ t x f, dc_MT t → (dc_HM O' O'.2.2.2.2.2 t x f ↔ (dc_HM O O.2.2.2.2.2 t x f ∨ dc_SM lf lr lab m t x f))) ∧
  ((lr m = 0 ∨ lr m = 5 → ∀ i q : Nat, i < 32 → q < 256 → la m = nI i → pl i = nI q → q + 1 = O.2.2.2.2.2 ∧ dc_tc O q) → p + 1 = O'.2.2.2.2.2 ∧ dc_tc O' p)
/-- the place of a cited line -/
def dc_at (lf lx : Nat → Int32) (O : dc_O) (pl : Nat → Int32) (i : Nat) : Prop := ∃ p : Nat, pl i = nI p ∧ p < O.2.2.2.2.2 ∧ O.2.2.2.2.1 p = lx i ∧ O.2.1 p = lf i
section
variable {fa fl fc ml mb lc pr ob : Nat} {im kf : Int32} {N : dc_N} {tr lf lr la lb ld lx lab bp bo nd pl : Nat → Int32} {Q O : dc_O} {S : Nat}
theorem dx_xl_app {post : Int32 → SX → Prop} {m i : Nat} {t0 : Int32} {p : Nat} (F : dc_BF fc lf ld bp (dc_B lr lc)) (hG : dc_NG fa fc N) (hO : dc_OK fa fc lf ld bp (dc_B lr lc) 3 N O S) (ht : N.2.2.2 + 3 ≤ 1024) (hc : O.2.2.2.2.2 + 2 ≤ 256) (hm : m < 32) (hi : i < 32) (hla : la m = nI i)
    (hB : dc_B lr lc (lx m)) (hD : dc_D ld (lx m) = dc_d ld m) (hDi : dc_D ld (lx i) = dc_d ld i) (h3 : dc_d ld m ≤ 3) (hf : dc_V fc N (lf m)) (hfi : dc_V fc N (lf i)) (hAN : dc_AN ld bp (lx i) (lx m)) (hp : p < O.2.2.2.2.2) (p1 : O.2.2.2.2.1 p = lx i) (p2 : O.2.1 p = lf i) (n1 : ¬ t0 = 1)
    (hA : ∀ (N' : dc_N) (w : Int32), dc_NE fc fc N N' → dc_I fc N' 2 w (lf i) (lf m) → dc_AX fc N' (nI fa) t0 w) (hw : dc_wl lr la lb ld m = 2 * dc_p (dc_d ld m) + (dc_p (dc_d ld m) - dc_p (dc_d ld i))) (hr : ¬ lr m = 0 ∧ ¬ lr m = 5) (hs : ∀ t x f, dc_SM lf lr lab m t x f ↔ t0 = t)
    (K : ∀ (N' : dc_N) (O' : dc_O) (p : Nat), dc_XS fa fc lf lr la lb ld lx lab bp (dc_B lr lc) N O pl S m N' O' p → post (nI p) (dc_X fa fl fc ml mb lc pr ob im kf N' tr lf lr la lb ld lx lab bp bo nd Q O' pl)) : wX_expandLine_161 post (nI m) (lf m) (lx m) (nI p) t0 7 8 0 1 2 3 4 5 6 7 8 9 32 1024 (nI fa) (nI fl) (nI fc) (nI N.2.2.2) (nI ml) (nI mb) (nI lc) (nI pr) (nI ob) im 256 (nI Q.2.2.2.2.2) kf (nI O.2.2.2.2.2) N.1 N.2.1 N.2.2.1 tr lf lr la lb ld lx lab bp bo nd Q.1 Q.2.1 Q.2.2.1 Q.2.2.2.1 Q.2.2.2.2.1 O.1 O.2.1 O.2.2.1 O.2.2.2.1 O.2.2.2.2.1 pl := by
  have em : (nI m).toNatClampNeg = m := nI_clamp (by omega)
  refine ⟨vp_in_nI hm (by omega), ?_⟩
  rw [em, hla, nI_clamp (by omega)]
  refine ⟨vp_in_nI hi (by omega), ?_⟩
  refine dx_app (L := 3) (i := p) hG hO hfi hf (by omega) hc hp p2 hB (by omega) (by rw [p1]; exact hAN) hA ?_
  intro N' O' n1' n2 n3 n4 n5 n6 n7 n8 n9 n10
  rw [p1, hD, hDi] at n5
  refine K N' O' (O.2.2.2.2.2 + 1) ⟨n1', n2, by omega, n4, ⟨n5.1, Nat.le_trans n5.2 (by rw [hw]; omega)⟩, by omega, n7, n8, ?_, fun _ => ⟨n6.symm, dc_tc_n (by rw [n10]; decide)⟩⟩
  intro t x f hmt
  rw [hs]
  refine dc_HM_g n4 n1 (fun k k1 k2 => ?_) ⟨O.2.2.2.2.2, by omega, n9⟩ hmt
  have : k = O.2.2.2.2.2 ∨ k = O.2.2.2.2.2 + 1 := by omega
  rcases this with e | e
  · rw [e]; exact Or.inl n9
  · rw [e]; exact Or.inr (Or.inl n10)
theorem dx_xpair {post : Int32 → SX → Prop} {m i j p q : Nat} (F : dc_BF fc lf ld bp (dc_B lr lc)) (hG : dc_NG fa fc N) (hO : dc_OK fa fc lf ld bp (dc_B lr lc) 3 N O S) (ht : N.2.2.2 + 3 ≤ 1024) (hc : O.2.2.2.2.2 + 3 ≤ 256) (hm : m < 32) (hi : i < 32) (hj : j < 32) (hla : la m = nI i) (hlb : lb m = nI j)
    (hB : dc_B lr lc (lx m)) (hD : dc_D ld (lx m) = dc_d ld m) (hDi : dc_D ld (lx i) = dc_d ld i) (hDj : dc_D ld (lx j) = dc_d ld j) (h3 : dc_d ld m ≤ 3) (hJ : dc_J fc N 3 (lf m) (lf i) (lf j)) (hAi : dc_AN ld bp (lx i) (lx m)) (hAj : dc_AN ld bp (lx j) (lx m)) (hp : p < O.2.2.2.2.2) (p1 : O.2.2.2.2.1 p = lx i) (p2 : O.2.1 p = lf i) (hq0 : pl j = nI q) (hq : q < O.2.2.2.2.2) (q1 : O.2.2.2.2.1 q = lx j) (q2 : O.2.1 q = lf j) (h2 : lr m = 2)
    (hw : dc_wl lr la lb ld m = 3 * dc_p (dc_d ld m) + (dc_p (dc_d ld m) - dc_p (dc_d ld i)) + (dc_p (dc_d ld m) - dc_p (dc_d ld j)))
    (K : ∀ (N' : dc_N) (O' : dc_O) (p : Nat), dc_XS fa fc lf lr la lb ld lx lab bp (dc_B lr lc) N O pl S m N' O' p → post (nI p) (dc_X fa fl fc ml mb lc pr ob im kf N' tr lf lr la lb ld lx lab bp bo nd Q O' pl)) : wpX_expandPair post (dc_X fa fl fc ml mb lc pr ob im kf N tr lf lr la lb ld lx lab bp bo nd Q O pl) (nI m) (nI p) := by
  have em : (nI m).toNatClampNeg = m := nI_clamp (by omega)
  have ei : (nI i).toNatClampNeg = i := nI_clamp (by omega)
  have ej : (nI j).toNatClampNeg = j := nI_clamp (by omega)
  have hI := dc_J_I hJ
  obtain ⟨vi, vj⟩ := dc_I_ch hG.1 (Or.inr rfl) hI
  have hmi : vp_in (nI m) 32 := vp_in_nI hm (by omega)
  refine ⟨hmi, nm_r (congrArg lf em) ⟨hmi, ?_⟩⟩
  (try rw [em])
  rw [hlb]
  (try rw [ej])
  refine ⟨vp_in_nI hj (by omega), dx_imp hG vj (dc_I_V hI) (by omega) (fun tl N1 a1 a2 a3 a4 => ⟨hmi, ?_⟩)⟩
  (try rw [em])
  rw [hla]
  (try rw [ei])
  refine ⟨vp_in_nI hi (by omega), hmi, ?_⟩
  refine dx_app (L := 3) (i := p) a2 (dc_OK_N a1 hO) (dc_V_m a1 vi) (dc_I_V a4) (by omega) (by omega) hp p2 hB (by omega) (by rw [p1]; exact hAi) ?_ ?_
  · intro N2 w b1 b2
    exact Or.inr (Or.inr (Or.inr (Or.inr (Or.inr ⟨rfl, lf i, tl, lf j, lf m, b2, dc_I_m b1 a4, dc_I_m (dc_NE_t a1 b1) hI⟩))))
  · intro N2 O2 n1 n2 n3 n4 n5 n6 n7 n8 n9 n10
    refine ⟨hmi, ?_⟩
    (try rw [em])
    rw [hlb]
    (try rw [ej])
    refine ⟨vp_in_nI (by omega) (by omega), hmi, ?_⟩
    rw [hq0]
    refine dx_emit (by omega) ?_
    rw [p1, hD, hDi] at n5
    obtain ⟨j1, j2, j3, j4, j5⟩ := n4.2 q hq
    have t12 := dc_NE_t a1 n1
    have o := dc_OK_mod (f := lf m) (x := lx m) (i := O.2.2.2.2.2 + 1) (j := q) (by omega) n5 hB (by omega) (dc_V_m t12 (dc_I_V hI)) (by omega) (by omega) (by rw [n7]; exact dc_AN_r _) (by rw [j5, q1]; exact hAj) (by rw [n8, j2, q2]; exact dc_I_m n1 a4)
    rw [n7, j5, q1, hD, hDj] at o
    have e2 := dc_OE_p (O := O2) (t := 2) (f := lf m) (a := nI (O.2.2.2.2.2 + 1)) (b := nI q) (x := lx m)
    obtain ⟨b1, b2, b3, b4, b5, b6⟩ := dc_p_at (O := O2) (t := 2) (f := lf m) (a := nI (O.2.2.2.2.2 + 1)) (b := nI q) (x := lx m)
    refine K N2 _ O2.2.2.2.2.2 ⟨t12, n2, by omega, dc_OE_t n4 e2, ⟨o.1, Nat.le_trans o.2 (by rw [hw]; omega)⟩, by omega, b5, b2, ?_, fun _ => ⟨b6.symm, dc_tc_n (by rw [b1]; decide)⟩⟩
    intro t x f hmt
    rw [dc_SM_2 h2]
    refine dc_HM_g (dc_OE_t n4 e2) (by decide) (fun k k1 k2 => ?_) ⟨O.2.2.2.2.2, by omega, ?_⟩ hmt
    · rw [b6] at k2
      by_cases e : k = O2.2.2.2.2.2
      · rw [e]; exact Or.inr (Or.inl b1)
      · rw [(e2.2 k (by omega)).1]
        have : k = O.2.2.2.2.2 ∨ k = O.2.2.2.2.2 + 1 := by omega
        rcases this with e | e
        · rw [e]; exact Or.inl n9
        · rw [e]; exact Or.inr (Or.inl n10)
    · rw [(e2.2 O.2.2.2.2.2 (by omega)).1]; exact n9
theorem dx_xraa {post : Int32 → SX → Prop} {m i b p : Nat} (F : dc_BF fc lf ld bp (dc_B lr lc)) (hG : dc_NG fa fc N) (hO : dc_OK fa fc lf ld bp (dc_B lr lc) 3 N O S) (ht : N.2.2.2 + 3 ≤ 1024) (hc : O.2.2.2.2.2 + 3 ≤ 256) (hi : i < 32) (hb : b < 32)
    (hB : dc_B lr lc (lx m)) (hD : dc_D ld (lx m) = dc_d ld m) (h3 : dc_d ld m ≤ 3) (hJ : dc_J fc N 2 (lf b) (lf m) (nI fa)) (hxi : lx i = nI b) (hxm : lx m = bp b) (hDi : dc_D ld (lx i) = dc_d ld m + 1) (hp : p < O.2.2.2.2.2) (p1 : O.2.2.2.2.1 p = lx i) (p2 : O.2.1 p = nI fa) (h6 : lr m = 6)
    (hw : dc_wl lr la lb ld m = 2 * dc_p (dc_d ld m))
    (K : ∀ (N' : dc_N) (O' : dc_O) (p : Nat), dc_XS fa fc lf lr la lb ld lx lab bp (dc_B lr lc) N O pl S m N' O' p → post (nI p) (dc_X fa fl fc ml mb lc pr ob im kf N' tr lf lr la lb ld lx lab bp bo nd Q O' pl)) : wpX_expandRaa post (dc_X fa fl fc ml mb lc pr ob im kf N tr lf lr la lb ld lx lab bp bo nd Q O pl) (lf m) (nI p) (lx m) := by
  have hI := dc_J_I hJ
  obtain ⟨vm, vf⟩ := dc_I_ch hG.1 (Or.inl rfl) hI
  refine dx_imp hG vm vf (by omega) (fun ng N1 a1 a2 a3 a4 => ?_)
  have eng : ng = lf b := dc_I_u a2.1 a2.2 a4 (dc_I_m a1 hI)
  subst eng
  refine dx_imp a2 (dc_I_V a4) (dc_V_m a1 vf) (by omega) (fun tw N2 b1 b2 b3 b4 => ?_)
  have t12 := dc_NE_t a1 b1
  have hne : ¬ O.2.2.2.2.1 p = lx m := by
    intro e
    rw [p1] at e
    rw [e, hD] at hDi
    omega
  have hcl : (O.2.2.2.2.1 p).toNatClampNeg = b := by rw [p1, hxi]; exact nI_clamp (by omega)
  refine dx_link_n (by omega) hne (by omega) ?_
  have o1 := dc_OK_link (f := tw) (b := -1) (x := lx m) (i := p) (by omega) (dc_OK_N t12 hO) hB (by omega) (dc_I_V b4) hp hne (Or.inr ⟨by rw [p1, hxi]; exact dc_ne1 (by omega), by rw [hcl]; exact hxm.symm, by rw [hcl, p2]; exact b4⟩)
  have hz : dc_p (dc_d ld m) - dc_p (dc_d ld m + 1) = 0 := by
    have := dc_p_le (a := dc_d ld m) (b := dc_d ld m + 1) (by omega)
    omega
  rw [p1, hD, hDi, hz] at o1
  have e1 := dc_OE_p (O := O) (t := 3) (f := tw) (a := nI p) (b := -1) (x := lx m)
  obtain ⟨c1, c2, c3, c4, c5, c6⟩ := dc_p_at (O := O) (t := 3) (f := tw) (a := nI p) (b := -1) (x := lx m)
  refine dx_app (O := dc_push O 3 tw (nI p) (-1) (lx m)) (L := 3) (i := O.2.2.2.2.2) b2 o1 (dc_I_V b4) (dc_V_m t12 vm) (by omega) (by show O.2.2.2.2.2 + 1 + 2 ≤ 256; omega) (Nat.lt_succ_self _) c2 hB (by omega) (by rw [c5]; exact dc_AN_r _) ?_ ?_
  · intro N3 w d1 d2
    exact Or.inr (Or.inr (Or.inl ⟨rfl, tw, lf m, lf b, d2, dc_I_m d1 b4, dc_I_m (dc_NE_t b1 d1) a4⟩))
  · intro N3 O3 n1 n2 n3 n4 n5 n6 n7 n8 n9 n10
    have n6' : O3.2.2.2.2.2 = O.2.2.2.2.2 + 3 := n6
    rw [c5, hD] at n5
    have oe := dc_OE_t e1 n4
    refine K N3 O3 (O.2.2.2.2.2 + 1 + 1) ⟨dc_NE_t t12 n1, n2, by omega, oe, ⟨n5.1, Nat.le_trans n5.2 (by rw [hw]; omega)⟩, by omega, n7, n8, ?_, fun _ => ⟨by omega, dc_tc_n ?_⟩⟩
    · intro t x f hmt
      rw [dc_SM_6 h6]
      refine dc_HM_g oe (by decide) (fun k k1 k2 => ?_) ⟨O.2.2.2.2.2 + 1, by omega, n9⟩ hmt
      have : k = O.2.2.2.2.2 ∨ k = O.2.2.2.2.2 + 1 ∨ k = O.2.2.2.2.2 + 1 + 1 := by omega
      rcases this with e | e | e
      · rw [e, (n4.2 O.2.2.2.2.2 (Nat.lt_succ_self _)).1]; exact Or.inr (Or.inr c1)
      · rw [e]; exact Or.inl n9
      · rw [e]; exact Or.inr (Or.inl n10)
    · rw [show O3.1 (O.2.2.2.2.2 + 1 + 1) = 2 from n10]; decide
end
end
section
theorem dc_wl_a {lr la lb ld : Nat → Int32} {m i : Nat} (hi : i < 32) (hla : la m = nI i) (hlb : lb m = -1) : dc_wl lr la lb ld m = dc_ow (lr m) (dc_d ld m) + (dc_p (dc_d ld m) - dc_p (dc_d ld i)) := by
  unfold dc_wl
  rw [hla, hlb, dc_cw_m, dc_cw_n hi]
  omega
theorem dc_wl_b {lr la lb ld : Nat → Int32} {m i j : Nat} (hi : i < 32) (hj : j < 32) (hla : la m = nI i) (hlb : lb m = nI j) : dc_wl lr la lb ld m = dc_ow (lr m) (dc_d ld m) + (dc_p (dc_d ld m) - dc_p (dc_d ld i)) + (dc_p (dc_d ld m) - dc_p (dc_d ld j)) := by
  unfold dc_wl
  rw [hla, hlb, dc_cw_n hi, dc_cw_n hj]
theorem dc_wl_0 {lr la lb ld : Nat → Int32} {m : Nat} (hla : la m = -1) (hlb : lb m = -1) : dc_wl lr la lb ld m = dc_ow (lr m) (dc_d ld m) := by
  unfold dc_wl
  rw [hla, hlb, dc_cw_m]
  rfl
section
variable {fa fl fc ml mb lc pr ob : Nat} {im kf : Int32} {N : dc_N} {tr lf lr la lb ld lx lab bp bo nd pl : Nat → Int32} {Q O : dc_O} {S : Nat}
/-- a line pushed for a source line -/
theorem dc_XS_push {m : Nat} {t0 a b : Int32} (hG : dc_NG fa fc N) (ho : dc_OK fa fc lf ld bp (dc_B lr lc) 3 N (dc_push O t0 (lf m) a b (lx m)) (S + (dc_wl lr la lb ld m + 1))) (hs : ∀ t x f, dc_MT t → (dc_SM lf lr lab m t x f ↔ (t0 = t ∧ (t = 1 → a = x ∧ lf m = f))))
    (htc : (lr m = 0 ∨ lr m = 5 → ∀ i q : Nat, i < 32 → q < 256 → la m = nI i → pl i = nI q → q + 1 = O.2.2.2.2.2 ∧ dc_tc O q) → dc_tc (dc_push O t0 (lf m) a b (lx m)) O.2.2.2.2.2) :
    dc_XS fa fc lf lr la lb ld lx lab bp (dc_B lr lc) N O pl S m N (dc_push O t0 (lf m) a b (lx m)) O.2.2.2.2.2 := by
  obtain ⟨e1, e2, e3, e4, e5, e6⟩ := dc_p_at (O := O) (t := t0) (f := lf m) (a := a) (b := b) (x := lx m)
  refine ⟨dc_NE_r, hG, Nat.le_add_right _ _, dc_OE_p, ho, Nat.lt_succ_self _, e5, e2, fun t x f hm => ?_, fun h => ⟨rfl, htc h⟩⟩
  rw [hs t x f hm]
  exact dc_HM_p
/-- the chain through a link that is pushed -/
theorem dc_tc_link {m i p : Nat} {f b x : Int32} (hi : i < 32) (hc : O.2.2.2.2.2 ≤ 256) (hla : la m = nI i) (hp : pl i = nI p) (hpc : p < O.2.2.2.2.2) (h0 : lr m = 0 ∨ lr m = 5) (h : lr m = 0 ∨ lr m = 5 → ∀ i q : Nat, i < 32 → q < 256 → la m = nI i → pl i = nI q → q + 1 = O.2.2.2.2.2 ∧ dc_tc O q) : dc_tc (dc_push O 3 f (nI p) b x) O.2.2.2.2.2 := by
  obtain ⟨g1, g2⟩ := h h0 i p hi (by omega) hla hp
  have e := dc_OE_p (O := O) (t := 3) (f := f) (a := nI p) (b := b) (x := x)
  obtain ⟨e1, e2, e3, e4, e5, e6⟩ := dc_p_at (O := O) (t := 3) (f := f) (a := nI p) (b := b) (x := x)
  have g4 := dc_tc_m e p hpc g2
  rw [← g1] at e3 ⊢
  exact Or.inr ⟨e3, g4⟩
theorem dx_xline {post : Int32 → SX → Prop} {m : Nat} (hl : lc ≤ 32) (H : ∀ n, n < lc → dc_LL fa fc N lf lr la lb ld lx lab bp n) (hm : m < lc) (hG : dc_NG fa fc N) (hO : dc_OK fa fc lf ld bp (dc_B lr lc) 3 N O S) (ht : N.2.2.2 + 3 ≤ 1024) (hc : S + (dc_wl lr la lb ld m + 1) ≤ 256)
    (hp : ∀ i : Nat, i < m → (la m = nI i ∨ lb m = nI i) → dc_at lf lx O pl i)
    (K : ∀ (N' : dc_N) (O' : dc_O) (p : Nat), dc_XS fa fc lf lr la lb ld lx lab bp (dc_B lr lc) N O pl S m N' O' p → post (nI p) (dc_X fa fl fc ml mb lc pr ob im kf N' tr lf lr la lb ld lx lab bp bo nd Q O' pl)) : wpX_expandLine post (dc_X fa fl fc ml mb lc pr ob im kf N tr lf lr la lb ld lx lab bp bo nd Q O pl) (nI m) := by
  have F := dc_BF_all hl H
  have hct := dc_OK_ct hO
  have hm32 : m < 32 := by omega
  have em : (nI m).toNatClampNeg = m := nI_clamp (by omega)
  have hmi : vp_in (nI m) 32 := vp_in_nI hm32 (by omega)
  obtain ⟨hB, hD⟩ := dc_SB_D hl H hm
  have hL := H m hm
  obtain ⟨⟨f, f1, f2⟩, _, h3, hT⟩ := hL
  have hf : dc_V fc N (lf m) := ⟨f, f1, Or.inl f2⟩
  have hV : ∀ i, i < lc → dc_V fc N (lf i) := by
    intro i hi
    obtain ⟨⟨f, f1, f2⟩, _⟩ := H i hi
    exact ⟨f, f1, Or.inl f2⟩
  have hpp := dc_p_pos (dc_d ld m)
  refine And.intro hmi (nm_r (congrArg lr em) ⟨hmi, nm_r (congrArg lf em) ⟨hmi, nm_r (congrArg lx em) ?_⟩⟩)
  rcases hT with ⟨g1, g2, g3, g4, g5, g6, g7, g8⟩ | ⟨g1, g2, g3, g4, g5, g6⟩ | ⟨g1, g2, g3⟩ | g
  · -- premise
    have hw : dc_wl lr la lb ld m = 1 := by rw [dc_wl_0 g2 g3, g1, dc_ow_7]
    rw [hw] at hc
    refine br_t g1 ⟨hmi, ?_⟩
    (try rw [em])
    refine dx_emit (by omega) (K _ _ _ (dc_XS_push hG ?_ (fun t x f _ => dc_SM_7 g1) (fun _ => dc_tc_n (by rw [dc_p_at.1]; decide))))
    have o := dc_OK_prem (f := lf m) (b := -1) (p := dc_np lr m) (by omega) hO F.1 hf g8
    rw [g5, g7, hw]
    exact ⟨o.1, Nat.le_trans o.2 (by omega)⟩
  · -- assumption
    have T7 : ¬ lr m = 7 := by rw [g1]; decide
    have hw : dc_wl lr la lb ld m = 5 * dc_p (dc_d ld m - 1) := by rw [dc_wl_0 g2 g3, g1, dc_ow_8]
    refine br_f T7 (br_t g1 ?_)
    refine dx_emit (by omega) (K _ _ _ (dc_XS_push hG ?_ (fun t x f hmt => ?_) (fun _ => dc_tc_n (by rw [dc_p_at.1]; decide))))
    · have o := dc_OK_hyp (f := lf m) (a := -1) (b := -1) (x := lx m) (by omega) hO hB (by omega) (by rw [g4]; exact dc_ne1 (by omega)) hf (by rw [g4, em])
      rw [hD] at o
      exact ⟨o.1, Nat.le_trans o.2 (by rw [hw]; omega)⟩
    · refine ⟨fun q => absurd q (dc_SM_no (Or.inr (Or.inr (Or.inr g1)))), fun q => ?_⟩
      have e := q.1
      subst e
      rcases hmt with z | z | z | z | z <;> exact absurd z (by decide)
  · -- an inference
    obtain ⟨i, hla, ci, hr⟩ := g3
    have hi : i < 32 := by have := ci.1; omega
    have hic : i < lc := by have := ci.1; omega
    have aI := dc_ci_AN hl H m (Nat.le_of_lt ci.1) hm ci.2
    have hDi := (dc_SB_D hl H hic).2
    obtain ⟨p, p0, p3, p1, p2⟩ := hp i ci.1 (Or.inl hla)
    have ei : (nI i).toNatClampNeg = i := nI_clamp (by omega)
    have R : ∀ {r : Int32}, lr m = r → ¬ r = 7 → ¬ r = 8 → ¬ lr m = 7 ∧ ¬ lr m = 8 := by
      intro r e a b
      rw [e]; exact ⟨a, b⟩
    rcases hr with ⟨r0, rb, rf⟩ | ⟨r0, rb, rf⟩ | ⟨r0, rb, rf⟩ | ⟨j, rb, cj, hr⟩
    · -- copy
      have hw := dc_wl_a (lr := lr) (ld := ld) hi hla rb
      rw [r0, dc_ow_0] at hw
      rw [hw] at hc
      obtain ⟨T7, T8⟩ := R r0 (by decide) (by decide)
      refine br_f T7 (br_f T8 ⟨hmi, ?_⟩)
      (try rw [em])
      rw [hla]
      refine ⟨vp_in_nI (by omega) (by omega), ?_⟩
      (try rw [ei])
      rw [p0]
      refine nm_e (br_t r0 ?_)
      by_cases e : lx i = lx m
      · refine dx_link_e (by omega) (p1.trans e) (K N O p ⟨dc_NE_r, hG, Nat.le_add_right _ _, dc_OE_r, ⟨hO.1, Nat.le_trans hO.2 (Nat.le_add_right _ _)⟩, p3, p1.trans e, p2.trans rf, fun t x f hmt => ?_, fun h => h (Or.inl r0) i p hi (by omega) hla p0⟩)
        exact ⟨Or.inl, fun q => q.resolve_right (dc_SM_no (Or.inl r0))⟩
      · have hn : ¬ O.2.2.2.2.1 p = lx m := by rw [p1]; exact e
        refine dx_link_n (by omega) hn (by omega) (K _ _ _ (dc_XS_push hG ?_ (fun t x f hmt => ?_) (fun h => dc_tc_link hi (by omega) hla p0 p3 (Or.inl r0) h)))
        · have o := dc_OK_link (f := lf m) (b := -1) (x := lx m) (i := p) (by omega) hO hB (by omega) hf p3 hn (Or.inl ⟨by rw [p1]; exact aI, p2.trans rf⟩)
          rw [p1, hD, hDi] at o
          rw [hw]
          exact ⟨o.1, Nat.le_trans o.2 (by omega)⟩
        · refine ⟨fun q => absurd q (dc_SM_no (Or.inl r0)), fun q => ?_⟩
          have e := q.1
          subst e
          rcases hmt with z | z | z | z | z <;> exact absurd z (by decide)
    · -- left
      obtain ⟨r, rf⟩ := rf
      have hw := dc_wl_a (lr := lr) (ld := ld) hi hla rb
      rw [r0, dc_ow_3] at hw
      rw [hw] at hc
      obtain ⟨T7, T8⟩ := R r0 (by decide) (by decide)
      refine br_f T7 (br_f T8 ⟨hmi, ?_⟩)
      (try rw [em])
      rw [hla]
      refine ⟨vp_in_nI (by omega) (by omega), ?_⟩
      (try rw [ei])
      rw [p0]
      refine nm_e (br_f (by rw [r0]; decide) (br_f (by rw [r0]; decide) (br_f (by rw [r0]; decide) (br_f (by rw [r0]; decide) (br_f (by rw [r0]; decide) (br_t r0 ?_))))))
      refine dx_xl_app F hG hO ht (by omega) hm32 hi hla hB hD hDi h3 hf (hV i hic) aI p3 p1 p2 (by decide) ?_ hw (by rw [r0]; exact ⟨by decide, by decide⟩) (fun t x f => dc_SM_3 r0) K
      intro N' w a1 a2
      exact Or.inr (Or.inr (Or.inr (Or.inl ⟨rfl, lf i, lf m, r, a2, dc_I_m a1 (dc_J_I rf)⟩)))
    · -- right
      obtain ⟨l, rf⟩ := rf
      have hw := dc_wl_a (lr := lr) (ld := ld) hi hla rb
      rw [r0, dc_ow_4] at hw
      rw [hw] at hc
      obtain ⟨T7, T8⟩ := R r0 (by decide) (by decide)
      refine br_f T7 (br_f T8 ⟨hmi, ?_⟩)
      (try rw [em])
      rw [hla]
      refine ⟨vp_in_nI (by omega) (by omega), ?_⟩
      (try rw [ei])
      rw [p0]
      refine nm_e (br_f (by rw [r0]; decide) (br_f (by rw [r0]; decide) (br_f (by rw [r0]; decide) (br_f (by rw [r0]; decide) (br_f (by rw [r0]; decide) (br_f (by rw [r0]; decide) ?_))))))
      refine dx_xl_app F hG hO ht (by omega) hm32 hi hla hB hD hDi h3 hf (hV i hic) aI p3 p1 p2 (by decide) ?_ hw (by rw [r0]; exact ⟨by decide, by decide⟩) (fun t x f => dc_SM_4 r0) K
      intro N' w a1 a2
      exact Or.inr (Or.inr (Or.inr (Or.inr (Or.inl ⟨rfl, lf i, l, lf m, a2, dc_I_m a1 (dc_J_I rf)⟩))))
    · have hj : j < 32 := by have := cj.1; omega
      have hjc : j < lc := by have := cj.1; omega
      have aJ := dc_ci_AN hl H m (Nat.le_of_lt cj.1) hm cj.2
      have hDj := (dc_SB_D hl H hjc).2
      obtain ⟨q, q0, q3, q1, q2⟩ := hp j cj.1 (Or.inr rb)
      have ej : (nI j).toNatClampNeg = j := nI_clamp (by omega)
      have hw := dc_wl_b (lr := lr) (ld := ld) hi hj hla rb
      rcases hr with ⟨r0, rf⟩ | ⟨r0, rf⟩
      · -- modus
        rw [r0, dc_ow_1] at hw
        rw [hw] at hc
        obtain ⟨T7, T8⟩ := R r0 (by decide) (by decide)
        refine br_f T7 (br_f T8 ⟨hmi, ?_⟩)
        (try rw [em])
        rw [hla]
        refine ⟨vp_in_nI (by omega) (by omega), ?_⟩
        (try rw [ei])
        rw [p0]
        refine nm_e (br_f (by rw [r0]; decide) (br_f (by rw [r0]; decide) (br_t r0 ⟨hmi, ?_⟩)))
        rw [rb]
        refine ⟨vp_in_nI (by omega) (by omega), ?_⟩
        (try rw [ej])
        rw [q0]
        refine dx_emit (by omega) (K _ _ _ (dc_XS_push hG ?_ (fun t x f hmt => ?_) (fun _ => dc_tc_n (by rw [dc_p_at.1]; decide))))
        · have o := dc_OK_mod (f := lf m) (x := lx m) (i := p) (j := q) (by omega) hO hB (by omega) hf p3 q3 (by rw [p1]; exact aI) (by rw [q1]; exact aJ) (by rw [p2, q2]; exact dc_J_I rf)
          rw [p1, q1, hD, hDi, hDj] at o
          rw [hw]
          exact ⟨o.1, Nat.le_trans o.2 (by omega)⟩
        · refine ⟨fun q => absurd q (dc_SM_no (Or.inr (Or.inl r0))), fun q => ?_⟩
          have e := q.1
          subst e
          rcases hmt with z | z | z | z | z <;> exact absurd z (by decide)
      · -- pair
        rw [r0, dc_ow_2] at hw
        rw [hw] at hc
        obtain ⟨T7, T8⟩ := R r0 (by decide) (by decide)
        refine br_f T7 (br_f T8 ⟨hmi, ?_⟩)
        (try rw [em])
        rw [hla]
        refine ⟨vp_in_nI (by omega) (by omega), ?_⟩
        (try rw [ei])
        rw [p0]
        refine nm_e (br_f (by rw [r0]; decide) (br_f (by rw [r0]; decide) (br_f (by rw [r0]; decide) (br_t r0 ?_))))
        exact dx_xpair F hG hO ht (by omega) hm32 hi hj hla rb hB hD hDi hDj h3 rf aI aJ p3 p1 p2 q0 q3 q1 q2 r0 hw K
  · -- a box is closed
    obtain ⟨i, b, g1, hla, rb, hb, hxi, hxm, hd, hr⟩ := g
    have hi : i < 32 := by omega
    have hic : i < lc := by omega
    have hDi := (dc_SB_D hl H hic).2
    obtain ⟨p, p0, p3, p1, p2⟩ := hp i (by omega) (Or.inl hla)
    have ei : (nI i).toNatClampNeg = i := nI_clamp (by omega)
    have hw := dc_wl_a (lr := lr) (ld := ld) hi hla rb
    have hz : dc_p (dc_d ld m) - dc_p (dc_d ld i) = 0 := by
      have := dc_p_le (a := dc_d ld m) (b := dc_d ld i) (by omega)
      omega
    rw [hz, Nat.add_zero] at hw
    rcases hr with ⟨r0, rf⟩ | ⟨r0, rf1, rf⟩
    · -- discharge
      rw [r0, dc_ow_5] at hw
      rw [hw] at hc
      refine br_f (by rw [r0]; decide) (br_f (by rw [r0]; decide) ⟨hmi, ?_⟩)
      (try rw [em])
      rw [hla]
      refine ⟨vp_in_nI (by omega) (by omega), ?_⟩
      (try rw [ei])
      rw [p0]
      refine nm_e (br_f (by rw [r0]; decide) (br_t r0 ?_))
      have hn : ¬ O.2.2.2.2.1 p = lx m := by
        intro e
        rw [p1] at e
        rw [e, hD] at hDi
        omega
      have hcl : (O.2.2.2.2.1 p).toNatClampNeg = b := by rw [p1, hxi]; exact nI_clamp (by omega)
      refine dx_link_n (by omega) hn (by omega) (K _ _ _ (dc_XS_push hG ?_ (fun t x f hmt => ?_) (fun h => dc_tc_link hi (by omega) hla p0 p3 (Or.inr r0) h)))
      · have o := dc_OK_link (f := lf m) (b := -1) (x := lx m) (i := p) (by omega) hO hB (by omega) hf p3 hn (Or.inr ⟨by rw [p1, hxi]; exact dc_ne1 (by omega), by rw [hcl]; exact hxm.symm, by rw [hcl, p2]; exact dc_J_I rf⟩)
        rw [p1, hD, hDi, hz] at o
        rw [hw]
        exact ⟨o.1, Nat.le_trans o.2 (by omega)⟩
      · refine ⟨fun q => absurd q (dc_SM_no (Or.inr (Or.inr (Or.inl r0)))), fun q => ?_⟩
        have e := q.1
        subst e
        rcases hmt with z | z | z | z | z <;> exact absurd z (by decide)
    · -- raa
      rw [r0, dc_ow_6] at hw
      rw [hw] at hc
      refine br_f (by rw [r0]; decide) (br_f (by rw [r0]; decide) ⟨hmi, ?_⟩)
      (try rw [em])
      rw [hla]
      refine ⟨vp_in_nI (by omega) (by omega), ?_⟩
      (try rw [ei])
      rw [p0]
      refine nm_e (br_f (by rw [r0]; decide) (br_f (by rw [r0]; decide) (br_f (by rw [r0]; decide) (br_f (by rw [r0]; decide) (br_t r0 ?_)))))
      exact dx_xraa F hG hO ht (by omega) hi (by omega) hB hD h3 rf hxi hxm (by omega) p3 p1 (p2.trans rf1) r0 hw K
end
end
section
/-! needed lines -/
def dc_CB (la lb : Nat → Int32) (n : Nat) : Prop := ∀ q, q ≤ n → (la q = -1 ∨ ∃ i : Nat, i < q ∧ la q = nI i) ∧ (lb q = -1 ∨ ∃ j : Nat, j < q ∧ lb q = nI j)
def dc_NS (la lb nd : Nat → Int32) (n : Nat) : Prop :=
  ¬ nd n = 0 ∧ (∀ j, n < j → j < 32 → nd j = 0) ∧ (∀ q j : Nat, q ≤ n → ¬ nd q = 0 → (la q = nI j ∨ lb q = nI j) → j < 32 → ¬ nd j = 0) ∧
  (∀ j : Nat, j < n → ¬ nd j = 0 → ∃ q, j < q ∧ q ≤ n ∧ ¬ nd q = 0 ∧ (la q = nI j ∨ lb q = nI j))
def dc_dn : Nat → Int32
  | 0 => -1
  | c + 1 => nI c
theorem dc_dn_s (c : Nat) : nI c + (-1) = dc_dn c := by
  cases c with
  | zero => decide
  | succ c => exact pk_m1 c
/-- lines at and above c are done -/
def dc_NX (la lb nd : Nat → Int32) (n c : Nat) : Prop :=
  ¬ nd n = 0 ∧ (∀ j, n < j → j < 32 → nd j = 0) ∧ (∀ q j : Nat, c ≤ q → q ≤ n → ¬ nd q = 0 → (la q = nI j ∨ lb q = nI j) → j < 32 → ¬ nd j = 0) ∧
  (∀ j : Nat, j < n → ¬ nd j = 0 → ∃ q, j < q ∧ q ≤ n ∧ ¬ nd q = 0 ∧ (la q = nI j ∨ lb q = nI j))
theorem dc_un0 {nd : Nat → Int32} {i j : Nat} (h : ¬ nd j = 0) : ¬ upd nd i 1 j = 0 := by
  by_cases e : j = i
  · subst e; rw [pk_us]; decide
  · rw [pk_un e]; exact h
theorem dc_un1 {nd : Nat → Int32} {i j : Nat} (h : ¬ upd nd i 1 j = 0) : j = i ∨ ¬ nd j = 0 := by
  by_cases e : j = i
  · exact Or.inl e
  · rw [pk_un e] at h; exact Or.inr h
section
variable {la lb nd : Nat → Int32} {n c : Nat}
/-- marking what line c cites, once -/
theorem dc_NX_mark {i : Nat} (hc : c ≤ n) (hn : n < 32) (h : dc_NX la lb nd n (c + 1)) (h0 : ¬ nd c = 0) (hi : i < c) (hci : la c = nI i ∨ lb c = nI i) : dc_NX la lb (upd nd i 1) n (c + 1) ∧ ¬ upd nd i 1 c = 0 := by
  obtain ⟨h1, h2, h3, h4⟩ := h
  refine ⟨⟨dc_un0 h1, ?_, ?_, ?_⟩, dc_un0 h0⟩
  · intro j j1 j2
    rw [pk_un (by omega)]; exact h2 j j1 j2
  · intro q j q1 q2 q3 q4 q5
    rcases dc_un1 q3 with e | e
    · omega
    · exact dc_un0 (h3 q j q1 q2 e q4 q5)
  · intro j j1 j2
    rcases dc_un1 j2 with e | e
    · subst e
      exact ⟨c, hi, hc, dc_un0 h0, hci⟩
    · obtain ⟨q, q1, q2, q3, q4⟩ := h4 j j1 e
      exact ⟨q, q1, q2, dc_un0 q3, q4⟩
theorem dc_NX_done (h : dc_NX la lb nd n (c + 1)) (hc : ∀ j : Nat, ¬ nd c = 0 → (la c = nI j ∨ lb c = nI j) → j < 32 → ¬ nd j = 0) : dc_NX la lb nd n c := by
  obtain ⟨h1, h2, h3, h4⟩ := h
  refine ⟨h1, h2, ?_, h4⟩
  intro q j q1 q2 q3 q4 q5
  by_cases e : q = c
  · subst e; exact hc j q3 q4 q5
  · exact h3 q j (by omega) q2 q3 q4 q5
end
section
variable {fa fl fc ml mb lc pr ob : Nat} {im kf : Int32} {N : dc_N} {tr lf lr la lb ld lx lab bp bo nd pl : Nat → Int32} {Q O : dc_O}
theorem dx_mark_l {post : SX → Prop} {n : Nat} (hn : n < 32) (hC : dc_CB la lb n) (K : ∀ nd', dc_NS la lb nd' n → post (dc_X fa fl fc ml mb lc pr ob im kf N tr lf lr la lb ld lx lab bp bo nd' Q O pl)) : ∀ (g c : Nat) (nd : Nat → Int32), c ≤ n + 1 → c < g → dc_NX la lb nd n c → wX_markNeeded_32 post 7 8 0 1 2 3 4 5 6 7 8 9 32 1024 (nI fa) (nI fl) (nI fc) (nI N.2.2.2) (nI ml) (nI mb) (nI lc) (nI pr) (nI ob) im 256 (nI Q.2.2.2.2.2) kf (nI O.2.2.2.2.2) g (dc_dn c) N.1 N.2.1 N.2.2.1 tr lf lr la lb ld lx lab bp bo nd Q.1 Q.2.1 Q.2.2.1 Q.2.2.2.1 Q.2.2.2.2.1 O.1 O.2.1 O.2.2.1 O.2.2.2.1 O.2.2.2.2.1 pl := by
  intro g
  induction g with
  | zero => intro c nd _ h; omega
  | succ g ih =>
    intro c nd hc hg hX
    cases c with
    | zero => exact br_t dc_n1 (K nd ⟨hX.1, hX.2.1, fun q j h => hX.2.2.1 q j (Nat.zero_le _) h, hX.2.2.2⟩)
    | succ c =>
      have hi : vp_in (nI c) 32 := vp_in_nI (by omega) (by omega)
      have ec : (nI c).toNatClampNeg = c := nI_clamp (by omega)
      have fin : ∀ nd', dc_NX la lb nd' n c → ∀ x2, x2 = nI c + (-1) → wX_markNeeded_32 post 7 8 0 1 2 3 4 5 6 7 8 9 32 1024 (nI fa) (nI fl) (nI fc) (nI N.2.2.2) (nI ml) (nI mb) (nI lc) (nI pr) (nI ob) im 256 (nI Q.2.2.2.2.2) kf (nI O.2.2.2.2.2) g x2 N.1 N.2.1 N.2.2.1 tr lf lr la lb ld lx lab bp bo nd' Q.1 Q.2.1 Q.2.2.1 Q.2.2.2.1 Q.2.2.2.2.1 O.1 O.2.1 O.2.2.1 O.2.2.2.1 O.2.2.2.2.1 pl := by
        intro nd' h
        exact nm_r (dc_dn_s c) (ih c nd' (by omega) (by omega) h)
      have second : ∀ nd', dc_NX la lb nd' n (c + 1) → (∀ j : Nat, ¬ nd' c = 0 → la c = nI j → j < 32 → ¬ nd' j = 0) → wX_markNeeded_66 post (wX_markNeeded_32 post 7 8 0 1 2 3 4 5 6 7 8 9 32 1024 (nI fa) (nI fl) (nI fc) (nI N.2.2.2) (nI ml) (nI mb) (nI lc) (nI pr) (nI ob) im 256 (nI Q.2.2.2.2.2) kf (nI O.2.2.2.2.2) g) (nI c) 7 8 0 1 2 3 4 5 6 7 8 9 32 1024 (nI fa) (nI fl) (nI fc) (nI N.2.2.2) (nI ml) (nI mb) (nI lc) (nI pr) (nI ob) im 256 (nI Q.2.2.2.2.2) kf (nI O.2.2.2.2.2) N.1 N.2.1 N.2.2.1 tr lf lr la lb ld lx lab bp bo nd' Q.1 Q.2.1 Q.2.2.1 Q.2.2.2.1 Q.2.2.2.2.1 O.1 O.2.1 O.2.2.1 O.2.2.2.1 O.2.2.2.2.1 pl := by
        intro nd' h ha
        refine And.intro hi ?_
        rw [ec]
        refine br_c (fun z => fin nd' (dc_NX_done h (fun j h0 => absurd z h0))) (fun z => ⟨hi, ?_⟩)
        rcases (hC c (by omega)).2 with e | ⟨j, j1, e⟩
        · rw [e]
          refine br_t dc_n1 (fin nd' (dc_NX_done h (fun j h0 hj h5 => ?_)))
          rcases hj with hj | hj
          · exact ha j h0 hj h5
          · rw [e] at hj; exact absurd hj.symm (dc_ne1 (by omega))
        · rw [e]
          refine br_f (nI_pos (by omega)) ⟨hi, vp_in_nI (by omega) (by omega), ?_⟩
          rw [dc_b1, nI_clamp (by omega)]
          obtain ⟨m1, m2⟩ := dc_NX_mark (by omega) hn h z j1 (Or.inr e)
          refine nm_e (fin _ (dc_NX_done m1 (fun k h0 hk h5 => ?_)))
          rcases hk with hk | hk
          · exact dc_un0 (ha k z hk h5)
          · rw [e] at hk
            have := dc_inj hk (by omega) (by omega)
            subst this
            rw [pk_us]; decide
      refine br_f (nI_pos (n := c) (by omega)) ⟨hi, ?_⟩
      rw [show (dc_dn (c + 1)).toNatClampNeg = c from ec]
      refine br_c (fun z => second nd hX (fun j h0 => absurd z h0)) (fun z => ⟨hi, ?_⟩)
      rcases (hC c (by omega)).1 with e | ⟨i, i1, e⟩
      · rw [e]
        refine br_t dc_n1 (second nd hX (fun j h0 hj h5 => ?_))
        rw [e] at hj; exact absurd hj.symm (dc_ne1 (by omega))
      · rw [e]
        refine br_f (nI_pos (by omega)) ⟨hi, vp_in_nI (by omega) (by omega), ?_⟩
        rw [dc_b1, nI_clamp (by omega)]
        obtain ⟨m1, m2⟩ := dc_NX_mark (by omega) hn hX z i1 (Or.inl e)
        refine nm_e (second _ m1 (fun k h0 hk h5 => ?_))
        rw [e] at hk
        have := dc_inj hk (by omega) (by omega)
        subst this
        rw [pk_us]; decide
theorem dx_mark {post : SX → Prop} {n : Nat} (hn : n < 32) (hC : dc_CB la lb n) (K : ∀ nd', dc_NS la lb nd' n → post (dc_X fa fl fc ml mb lc pr ob im kf N tr lf lr la lb ld lx lab bp bo nd' Q O pl)) : wpX_markNeeded post (dc_X fa fl fc ml mb lc pr ob im kf N tr lf lr la lb ld lx lab bp bo nd Q O pl) (nI n) := by
  refine Exists.intro 33 ?_
  have main : ∀ (g j : Nat) (nd : Nat → Int32), j ≤ 32 → 32 - j < g → (∀ i, i < j → nd i = if i = n then 1 else 0) → wX_markNeeded_2 post (nI n) 7 8 0 1 2 3 4 5 6 7 8 9 32 1024 (nI fa) (nI fl) (nI fc) (nI N.2.2.2) (nI ml) (nI mb) (nI lc) (nI pr) (nI ob) im 256 (nI Q.2.2.2.2.2) kf (nI O.2.2.2.2.2) g (nI j) N.1 N.2.1 N.2.2.1 tr lf lr la lb ld lx lab bp bo nd Q.1 Q.2.1 Q.2.2.1 Q.2.2.2.1 Q.2.2.2.2.1 O.1 O.2.1 O.2.2.1 O.2.2.2.1 O.2.2.2.2.1 pl := by
    intro g
    induction g with
    | zero => intro j nd _ h; omega
    | succ g ih =>
      intro j nd hj hg h
      refine pk_le 32 j (fun q => ?_) (fun q => ?_)
      · have e : j = 32 := by omega
        subst e
        refine Exists.intro (n + 2) (dx_mark_l hn hC K (n + 2) (n + 1) nd (Nat.le_refl _) (by omega) ⟨?_, ?_, ?_, ?_⟩)
        · rw [h n hn, if_pos rfl]; decide
        · intro i i1 i2
          rw [h i i2, if_neg (by omega)]
        · intro q i q1 q2
          omega
        · intro i i1 i2
          rw [h i (by omega), if_neg (by omega)] at i2
          exact absurd rfl i2
      · have hi : vp_in (nI j) 32 := vp_in_nI (by omega) (by omega)
        have ej : (nI j).toNatClampNeg = j := nI_clamp (by omega)
        refine pk_eq j n (fun e => ⟨hi, ?_⟩) (fun e => ⟨hi, ?_⟩)
        · (try rw [ej])
          rw [dc_b1]
          refine nm_e (nm_r (nI_1 j) (ih (j + 1) _ (by omega) (by omega) (fun i h1 => ?_)))
          by_cases z : i = j
          · subst z; rw [pk_us, if_pos e]
          · rw [pk_un z]; exact h i (by omega)
        · (try rw [ej])
          rw [dc_b0]
          refine nm_e (nm_r (nI_1 j) (ih (j + 1) _ (by omega) (by omega) (fun i h1 => ?_)))
          by_cases z : i = j
          · subst z; rw [pk_us, if_neg e]
          · rw [pk_un z]; exact h i (by omega)
  exact main 33 0 nd (by omega) (by omega) (fun i h => absurd h (Nat.not_lt_zero _))
end
end
section
/-! the reference's marking: as many passes as lines -/
def dc_ny (nx yn : Nat → Int32) (n p : Nat) : Prop :=
  (∀ j, j < 32 → ¬ yn j = 0 → ¬ nx j = 0) ∧ (∀ j, j ≤ n → ¬ nx j = 0 → n - j ≤ p → ¬ yn j = 0)
/-- within a pass: lines below i have been seen -/
def dc_nz (la lb nx yn : Nat → Int32) (n p i : Nat) : Prop :=
  dc_ny nx yn n p ∧ ∀ q j : Nat, q < i → q ≤ n → ¬ nx q = 0 → n - q ≤ p → (la q = nI j ∨ lb q = nI j) → j < 32 → ¬ yn j = 0
section
variable {la lb nx yn : Nat → Int32} {n p i : Nat}
theorem dc_ny_up {k : Nat} (h : dc_ny nx yn n p) (hk : k < 32) (hx : ¬ nx k = 0) : dc_ny nx (upd yn k 1) n p := by
  refine ⟨fun j j1 j2 => ?_, fun j j1 j2 j3 => dc_un0 (h.2 j j1 j2 j3)⟩
  rcases dc_un1 j2 with e | e
  · subst e; exact hx
  · exact h.1 j j1 e
theorem dc_nz_up {k : Nat} (h : dc_nz la lb nx yn n p i) (hk : k < 32) (hx : ¬ nx k = 0) : dc_nz la lb nx (upd yn k 1) n p i :=
  ⟨dc_ny_up h.1 hk hx, fun q j h1 h2 h3 h4 h5 h6 => dc_un0 (h.2 q j h1 h2 h3 h4 h5 h6)⟩
theorem dc_nz_s (h : dc_nz la lb nx yn n p i) (hi : ∀ j : Nat, i ≤ n → ¬ nx i = 0 → n - i ≤ p → (la i = nI j ∨ lb i = nI j) → j < 32 → ¬ yn j = 0) : dc_nz la lb nx yn n p (i + 1) := by
  refine ⟨h.1, fun q j h1 h2 h3 h4 h5 h6 => ?_⟩
  by_cases e : q = i
  · subst e; exact hi j h2 h3 h4 h5 h6
  · exact h.2 q j (by omega) h2 h3 h4 h5 h6
theorem dc_nz_end (hS : dc_NS la lb nx n) (hn : n < 32) (h : dc_nz la lb nx yn n p i) (hi : n < i) : dc_ny nx yn n (p + 1) := by
  refine ⟨h.1.1, fun j j1 j2 j3 => ?_⟩
  by_cases e : n - j ≤ p
  · exact h.1.2 j j1 j2 e
  · obtain ⟨q, q1, q2, q3, q4⟩ := hS.2.2.2 j (by omega) j2
    exact h.2 q j (by omega) q2 q3 (by omega) q4 (by omega)
end
section
variable {fa fl fc ml mb lc kc : Nat} {lf lr la lb ld nx yk yl yr yt yn kF kR kN : Nat → Int32}
theorem dy_mark_in {post : SY → Prop} {J : Int32 → (Nat → Int32) → (Nat → Int32) → (Nat → Int32) → (Nat → Int32) → (Nat → Int32) → (Nat → Int32) → (Nat → Int32) → (Nat → Int32) → (Nat → Int32) → (Nat → Int32) → (Nat → Int32) → (Nat → Int32) → (Nat → Int32) → Prop} {n p : Nat} (hn : n < lc) (hl : lc ≤ 32) (hC : dc_CB la lb n) (hS : dc_NS la lb nx n)
    (K : ∀ yn', dc_ny nx yn' n (p + 1) → J (nI (p + 1)) yk yl yr yt lf lr ld la lb yn' kF kR kN) : ∀ (g i : Nat) (yn : Nat → Int32), i ≤ lc → lc - i < g → dc_nz la lb nx yn n p i → wY_markNeeded_42 post J (nI p) (nI fa) (nI fl) (nI ml) (nI mb) (nI fc) (nI lc) (nI kc) g (nI i) yk yl yr yt lf lr ld la lb yn kF kR kN := by
  intro g
  induction g with
  | zero => intro i yn _ h; omega
  | succ g ih =>
    intro i yn hi hg hz
    refine pk_le lc i (fun h => nm_r (nI_1 p) (K yn (dc_nz_end hS (by omega) hz (by omega)))) (fun h => ?_)
    have hv : vp_in (nI i) 32 := vp_in_nI (by omega) (by omega)
    have ei : (nI i).toNatClampNeg = i := nI_clamp (by omega)
    have fin : ∀ yn', dc_nz la lb nx yn' n p (i + 1) → ∀ x, x = nI i + 1 → wY_markNeeded_42 post J (nI p) (nI fa) (nI fl) (nI ml) (nI mb) (nI fc) (nI lc) (nI kc) g x yk yl yr yt lf lr ld la lb yn' kF kR kN := by
      intro yn' h'
      exact nm_r (nI_1 i) (ih (i + 1) yn' (by omega) (by omega) h')
    -- a line that is marked is at most n
    have hle : ∀ yn', dc_nz la lb nx yn' n p i → ¬ yn' i = 0 → i ≤ n ∧ ¬ nx i = 0 := by
      intro yn' h' h0
      have hx := h'.1.1 i (by omega) h0
      refine ⟨?_, hx⟩
      by_cases e : i ≤ n
      · exact e
      · exact absurd (hS.2.1 i (by omega) (by omega)) hx
    have second : ∀ yn', dc_nz la lb nx yn' n p i → (∀ j : Nat, ¬ yn' i = 0 → la i = nI j → j < 32 → ¬ yn' j = 0) → wY_markNeeded_80 post J (wY_markNeeded_42 post J (nI p) (nI fa) (nI fl) (nI ml) (nI mb) (nI fc) (nI lc) (nI kc) g) (nI p) (nI i) (nI fa) (nI fl) (nI ml) (nI mb) (nI fc) (nI lc) (nI kc) yk yl yr yt lf lr ld la lb yn' kF kR kN := by
      intro yn' h' ha
      refine And.intro hv ?_
      (try rw [ei])
      refine br_c (fun z => fin yn' (dc_nz_s h' (fun j h1 h2 h3 => ?_))) (fun z => ⟨hv, ?_⟩)
      · exact absurd z (h'.1.2 i h1 h2 h3)
      · (try rw [ei])
        obtain ⟨q1, q2⟩ := hle yn' h' z
        rcases (hC i q1).2 with e | ⟨j, j1, e⟩
        · rw [e]
          refine br_t dc_n1 (fin yn' (dc_nz_s h' (fun j h1 h2 h3 h4 h5 => ?_)))
          rcases h4 with h4 | h4
          · exact ha j z h4 h5
          · rw [e] at h4; exact absurd h4.symm (dc_ne1 (by omega))
        · rw [e]
          refine br_f (nI_pos (by omega)) ⟨hv, vp_in_nI (by omega) (by omega), ?_⟩
          rw [dc_b1, nI_clamp (by omega)]
          have hx := hS.2.2.1 i j q1 q2 (Or.inr e) (by omega)
          refine nm_e (fin _ (dc_nz_s (dc_nz_up h' (by omega) hx) (fun k h1 h2 h3 h4 h5 => ?_)))
          rcases h4 with h4 | h4
          · exact dc_un0 (ha k z h4 h5)
          · rw [e] at h4
            have := dc_inj h4 (by omega) (by omega)
            subst this
            rw [pk_us]; decide
    refine ⟨hv, ?_⟩
    (try rw [ei])
    refine br_c (fun z => second yn hz (fun j h0 => absurd z h0)) (fun z => ⟨hv, ?_⟩)
    (try rw [ei])
    obtain ⟨q1, q2⟩ := hle yn hz z
    rcases (hC i q1).1 with e | ⟨j, j1, e⟩
    · rw [e]
      refine br_t dc_n1 (second yn hz (fun j h0 hj h5 => ?_))
      rw [e] at hj; exact absurd hj.symm (dc_ne1 (by omega))
    · rw [e]
      refine br_f (nI_pos (by omega)) ⟨hv, vp_in_nI (by omega) (by omega), ?_⟩
      rw [dc_b1, nI_clamp (by omega)]
      have hx := hS.2.2.1 i j q1 q2 (Or.inl e) (by omega)
      refine nm_e (second _ (dc_nz_up hz (by omega) hx) (fun k h0 hk h5 => ?_))
      rw [e] at hk
      have := dc_inj hk (by omega) (by omega)
      subst this
      rw [pk_us]; decide
theorem dy_mark_out {post : SY → Prop} {n : Nat} (hn : n < lc) (hl : lc ≤ 32) (hC : dc_CB la lb n) (hS : dc_NS la lb nx n)
    (K : ∀ yn', (∀ j, j < 32 → (¬ yn' j = 0 ↔ ¬ nx j = 0)) → post (dc_Y fa fl ml mb fc lc kc yk yl yr yt lf lr ld la lb yn' kF kR kN)) : ∀ (g p : Nat) (yn : Nat → Int32), p ≤ lc → lc - p < g → dc_ny nx yn n p → wY_markNeeded_32 post (nI fa) (nI fl) (nI ml) (nI mb) (nI fc) (nI lc) (nI kc) g (nI p) yk yl yr yt lf lr ld la lb yn kF kR kN := by
  intro g
  induction g with
  | zero => intro p yn _ h; omega
  | succ g ih =>
    intro p yn hp hg h
    refine pk_le lc p (fun q => K yn (fun j hj => ⟨h.1 j hj, fun hx => ?_⟩)) (fun q => ?_)
    · by_cases e : j ≤ n
      · exact h.2 j e hx (by omega)
      · exact absurd (hS.2.1 j (by omega) hj) hx
    · refine Exists.intro (lc + 1) (dy_mark_in hn hl hC hS (fun yn' h' => ih (p + 1) yn' (by omega) (by omega) h') (lc + 1) 0 yn (Nat.zero_le _) (by omega) ⟨h, fun q j hq => absurd hq (Nat.not_lt_zero _)⟩)
theorem dy_mark {post : SY → Prop} {n : Nat} (hn : n < lc) (hl : lc ≤ 32) (hC : dc_CB la lb n) (hS : dc_NS la lb nx n)
    (K : ∀ yn', (∀ j, j < 32 → (¬ yn' j = 0 ↔ ¬ nx j = 0)) → post (dc_Y fa fl ml mb fc lc kc yk yl yr yt lf lr ld la lb yn' kF kR kN)) : wpY_markNeeded post (dc_Y fa fl ml mb fc lc kc yk yl yr yt lf lr ld la lb yn kF kR kN) (nI n) := by
  refine Exists.intro 33 ?_
  have main : ∀ (g j : Nat) (yn : Nat → Int32), j ≤ 32 → 32 - j < g → (∀ i, i < j → yn i = if i = n then 1 else 0) → wY_markNeeded_2 post (nI n) (nI fa) (nI fl) (nI ml) (nI mb) (nI fc) (nI lc) (nI kc) g (nI j) yk yl yr yt lf lr ld la lb yn kF kR kN := by
    intro g
    induction g with
    | zero => intro j yn _ h; omega
    | succ g ih =>
      intro j yn hj hg h
      refine pk_le 32 j (fun q => ?_) (fun q => ?_)
      · have e : j = 32 := by omega
        subst e
        refine Exists.intro (lc + 1) (dy_mark_out hn hl hC hS K (lc + 1) 0 yn (Nat.zero_le _) (by omega) ⟨?_, ?_⟩)
        · intro i i1 i2
          rw [h i i1] at i2
          by_cases e : i = n
          · subst e; exact hS.1
          · rw [if_neg e] at i2; exact absurd rfl i2
        · intro i i1 i2 i3
          have e : i = n := by omega
          rw [h i (by omega), if_pos e]; decide
      · have hi : vp_in (nI j) 32 := vp_in_nI (by omega) (by omega)
        have ej : (nI j).toNatClampNeg = j := nI_clamp (by omega)
        refine pk_eq j n (fun e => ⟨hi, ?_⟩) (fun e => ⟨hi, ?_⟩)
        · (try rw [ej])
          rw [dc_b1]
          refine nm_e (nm_r (nI_1 j) (ih (j + 1) _ (by omega) (by omega) (fun i h1 => ?_)))
          by_cases z : i = j
          · subst z; rw [pk_us, if_pos e]
          · rw [pk_un z]; exact h i (by omega)
        · (try rw [ej])
          rw [dc_b0]
          refine nm_e (nm_r (nI_1 j) (ih (j + 1) _ (by omega) (by omega) (fun i h1 => ?_)))
          by_cases z : i = j
          · subst z; rw [pk_us, if_neg e]
          · rw [pk_un z]; exact h i (by omega)
  exact main 33 0 yn (by omega) (by omega) (fun i h => absurd h (Nat.not_lt_zero _))
end
end
section
/-! the weights -/
def dc_RU (r : Int32) : Prop := r = 0 ∨ r = 1 ∨ r = 2 ∨ r = 3 ∨ r = 4 ∨ r = 5 ∨ r = 6 ∨ r = 7 ∨ r = 8
def dc_WF (lr la lb ld : Nat → Int32) (m : Nat) : Prop :=
  ld m = nI (dc_d ld m) ∧ dc_d ld m ≤ 3 ∧ dc_RU (lr m) ∧ (lr m = 8 → 1 ≤ dc_d ld m) ∧ (la m = -1 ∨ ∃ i : Nat, i < m ∧ la m = nI i) ∧ (lb m = -1 ∨ ∃ j : Nat, j < m ∧ lb m = nI j)
theorem dc_LL_WF {fa fc : Nat} {N : dc_N} {lf lr la lb ld lx lab bp : Nat → Int32} {n : Nat} (h : dc_LL fa fc N lf lr la lb ld lx lab bp n) : dc_WF lr la lb ld n := by
  obtain ⟨h1, h2, h3, h4⟩ := h
  refine ⟨h2, h3, ?_⟩
  unfold dc_RU
  rcases h4 with ⟨g1, g2, g3, _⟩ | ⟨g1, g2, g3, g4, g5, g6⟩ | ⟨g1, g2, i, hla, ci, hr⟩ | ⟨m, b, g1, hla, rb, hb, hxi, hxm, hd, hr⟩
  · rw [g1]
    exact ⟨by decide, fun e => absurd e (by decide), Or.inl g2, Or.inl g3⟩
  · rw [g1]
    exact ⟨by decide, fun _ => by omega, Or.inl g2, Or.inl g3⟩
  · rcases hr with ⟨r0, rb, rf⟩ | ⟨r0, rb, rf⟩ | ⟨r0, rb, rf⟩ | ⟨j, rb, cj, ⟨r0, hr⟩ | ⟨r0, hr⟩⟩ <;> rw [r0]
    · exact ⟨by decide, fun e => absurd e (by decide), Or.inr ⟨i, ci.1, hla⟩, Or.inl rb⟩
    · exact ⟨by decide, fun e => absurd e (by decide), Or.inr ⟨i, ci.1, hla⟩, Or.inl rb⟩
    · exact ⟨by decide, fun e => absurd e (by decide), Or.inr ⟨i, ci.1, hla⟩, Or.inl rb⟩
    · exact ⟨by decide, fun e => absurd e (by decide), Or.inr ⟨i, ci.1, hla⟩, Or.inr ⟨j, cj.1, rb⟩⟩
    · exact ⟨by decide, fun e => absurd e (by decide), Or.inr ⟨i, ci.1, hla⟩, Or.inr ⟨j, cj.1, rb⟩⟩
  · rcases hr with ⟨r0, hr⟩ | ⟨r0, hr⟩ <;> rw [r0]
    · exact ⟨by decide, fun e => absurd e (by decide), Or.inr ⟨m, by omega, hla⟩, Or.inl rb⟩
    · exact ⟨by decide, fun e => absurd e (by decide), Or.inr ⟨m, by omega, hla⟩, Or.inl rb⟩
def dc_wn (lr la lb ld nd : Nat → Int32) (m : Nat) : Nat := if nd m = 0 then 0 else dc_wl lr la lb ld m
theorem dc_p3 {d : Nat} (h : d ≤ 3) : dc_p d ≤ 27 := dc_p_le (b := 3) h
theorem dc_ow_b {r : Int32} {d : Nat} (hr : dc_RU r) (h : d ≤ 3) : dc_ow r d ≤ 135 := by
  have h1 := dc_p3 h
  have h2 := dc_p3 (d := d - 1) (by omega)
  rcases hr with rfl | rfl | rfl | rfl | rfl | rfl | rfl | rfl | rfl
  · rw [dc_ow_0]; omega
  · rw [dc_ow_1]; omega
  · rw [dc_ow_2]; omega
  · rw [dc_ow_3]; omega
  · rw [dc_ow_4]; omega
  · rw [dc_ow_5]; omega
  · rw [dc_ow_6]; omega
  · rw [dc_ow_7]; omega
  · rw [dc_ow_8]; omega
theorem dc_cw_b {ld : Nat → Int32} {c : Int32} {d : Nat} (h : d ≤ 3) : dc_cw ld c d ≤ 27 := by
  unfold dc_cw
  have h1 := dc_p3 h
  split <;> omega
theorem dc_wn_b {lr la lb ld nd : Nat → Int32} {m : Nat} (h : dc_WF lr la lb ld m) : dc_wn lr la lb ld nd m ≤ 200 := by
  unfold dc_wn dc_wl
  have h1 := dc_ow_b (d := dc_d ld m) h.2.2.1 h.2.1
  have h2 := dc_cw_b (ld := ld) (c := la m) h.2.1
  have h3 := dc_cw_b (ld := ld) (c := lb m) h.2.1
  split <;> omega
theorem dc_sm_b {w : Nat → Nat} {n : Nat} (h : ∀ k, k < n → w k ≤ 200) : dc_sm w n ≤ n * 200 := by
  induction n with
  | zero => exact Nat.le_refl _
  | succ n ih =>
    have h1 := ih (fun k hk => h k (by omega))
    have h2 := h n (by omega)
    show dc_sm w n + w n ≤ _
    omega
section
variable {fa fl fc ml mb lc pr ob kc : Nat} {im kf : Int32} {N : dc_N} {tr lf lr la lb ld lx lab bp bo nd pl : Nat → Int32} {Q O : dc_O} {yk yl yr yt yn kF kR kN : Nat → Int32}
theorem dx_power {post : Int32 → Prop} {d : Nat} {x : Int32} (hx : x = nI d) (hd : d ≤ 3) (K : post (nI (dc_p d))) : wpX_power post (dc_X fa fl fc ml mb lc pr ob im kf N tr lf lr la lb ld lx lab bp bo nd Q O pl) x := by
  subst hx
  have main : ∀ g k, k ≤ d → d - k < g → wX_power_4 post (nI d) 7 8 0 1 2 3 4 5 6 7 8 9 32 1024 (nI fa) (nI fl) (nI fc) (nI N.2.2.2) (nI ml) (nI mb) (nI lc) (nI pr) (nI ob) im 256 (nI Q.2.2.2.2.2) kf (nI O.2.2.2.2.2) N.1 N.2.1 N.2.2.1 tr lf lr la lb ld lx lab bp bo nd Q.1 Q.2.1 Q.2.2.1 Q.2.2.2.1 Q.2.2.2.2.1 O.1 O.2.1 O.2.2.1 O.2.2.2.1 O.2.2.2.2.1 pl g (nI (dc_p k)) (nI k) := by
    intro g
    induction g with
    | zero => intro k _ h; omega
    | succ g ih =>
      intro k hk hg
      refine pk_le d k (fun h => ?_) (fun h => ?_)
      · have e : k = d := by omega
        subst e; exact K
      · have e : nI (dc_p k) * 3 = nI (dc_p (k + 1)) := (pk_mul (dc_p k) 3).trans (congrArg nI (by rw [dc_p_s]; omega))
        exact nm_r e (nm_r (nI_1 k) (ih (k + 1) h (by omega)))
  exact Exists.intro (d + 1) (main (d + 1) 0 (Nat.zero_le _) (by omega))
theorem dx_own {post : Int32 → Prop} {d : Nat} {r : Int32} (hr : dc_RU r) (hd : d ≤ 3) (h8 : r = 8 → 1 ≤ d) (K : post (nI (dc_ow r d))) : wpX_ownWeight post (dc_X fa fl fc ml mb lc pr ob im kf N tr lf lr la lb ld lx lab bp bo nd Q O pl) r (nI d) := by
  rcases hr with rfl | rfl | rfl | rfl | rfl | rfl | rfl | rfl | rfl
  · rw [dc_ow_0] at K
    exact br_f (by decide) (br_t rfl K)
  · rw [dc_ow_1] at K
    exact br_f (by decide) (br_f (by decide) (br_f (by decide) (br_f (by decide) (br_t rfl (dx_power rfl hd K)))))
  · rw [dc_ow_2] at K
    refine br_f (by decide) (br_f (by decide) (br_f (by decide) (br_f (by decide) (br_f (by decide) (br_t rfl (dx_power rfl hd ?_))))))
    rw [show (3 : Int32) * nI (dc_p d) = nI (3 * dc_p d) from pk_mul 3 _]; exact K
  · rw [dc_ow_3] at K
    refine br_f (by decide) (br_f (by decide) (br_f (by decide) (br_f (by decide) (br_f (by decide) (br_f (by decide) (dx_power rfl hd ?_))))))
    rw [show (2 : Int32) * nI (dc_p d) = nI (2 * dc_p d) from pk_mul 2 _]; exact K
  · rw [dc_ow_4] at K
    refine br_f (by decide) (br_f (by decide) (br_f (by decide) (br_f (by decide) (br_f (by decide) (br_f (by decide) (dx_power rfl hd ?_))))))
    rw [show (2 : Int32) * nI (dc_p d) = nI (2 * dc_p d) from pk_mul 2 _]; exact K
  · rw [dc_ow_5] at K
    exact br_f (by decide) (br_f (by decide) (br_t rfl K))
  · rw [dc_ow_6] at K
    refine br_f (by decide) (br_f (by decide) (br_f (by decide) (br_f (by decide) (br_f (by decide) (br_f (by decide) (dx_power rfl hd ?_))))))
    rw [show (2 : Int32) * nI (dc_p d) = nI (2 * dc_p d) from pk_mul 2 _]; exact K
  · rw [dc_ow_7] at K
    exact br_t rfl K
  · rw [dc_ow_8] at K
    refine br_f (by decide) (br_f (by decide) (br_f (by decide) (br_t rfl (dx_power (d := d - 1) (dc_s1 (h8 rfl)) (by omega) ?_))))
    rw [show (5 : Int32) * nI (dc_p (d - 1)) = nI (5 * dc_p (d - 1)) from pk_mul 5 _]; exact K
theorem dx_cw {post : Int32 → Prop} {d : Nat} {c : Int32} (hd : d ≤ 3) (hc : c = -1 ∨ ∃ i : Nat, i < 32 ∧ c = nI i ∧ ld i = nI (dc_d ld i) ∧ dc_d ld i ≤ 3) (K : post (nI (dc_cw ld c d))) : wpX_citationWeight post (dc_X fa fl fc ml mb lc pr ob im kf N tr lf lr la lb ld lx lab bp bo nd Q O pl) c (nI d) := by
  rcases hc with rfl | ⟨i, hi, rfl, h1, h2⟩
  · rw [dc_cw_m] at K
    exact br_t dc_n1 K
  · rw [dc_cw_n hi] at K
    have hv : vp_in (nI i) 32 := vp_in_nI hi (by omega)
    refine br_f (nI_pos (by omega)) ⟨hv, ?_⟩
    rw [nI_clamp (by omega)]
    refine pk_lt (dc_d ld i) d (fun h => dx_power rfl hd ⟨hv, dx_power h1 h2 ?_⟩) (fun h => ?_) h1
    · rw [pk_sub (dc_p_le (by omega))]; exact K
    · rw [show dc_p d - dc_p (dc_d ld i) = 0 by have := dc_p_le h; omega] at K
      exact K
theorem dc_wf_c {m : Nat} (hl : lc ≤ 32) (H : ∀ k, k < lc → dc_WF lr la lb ld k) (hm : m < lc) {c : Int32} (h : c = -1 ∨ ∃ i : Nat, i < m ∧ c = nI i) : c = -1 ∨ ∃ i : Nat, i < 32 ∧ c = nI i ∧ ld i = nI (dc_d ld i) ∧ dc_d ld i ≤ 3 := by
  rcases h with h | ⟨i, hi, h⟩
  · exact Or.inl h
  · exact Or.inr ⟨i, by omega, h, (H i (by omega)).1, (H i (by omega)).2.1⟩
theorem dx_weigh {post : Int32 → Prop} {n : Nat} (hl : lc ≤ 32) (hn : n < lc) (H : ∀ k, k < lc → dc_WF lr la lb ld k) (K : post (nI (dc_sm (dc_wn lr la lb ld nd) (n + 1)))) : wpX_weigh post (dc_X fa fl fc ml mb lc pr ob im kf N tr lf lr la lb ld lx lab bp bo nd Q O pl) (nI n) := by
  have main : ∀ g k, k ≤ n + 1 → n + 1 - k < g → wX_weigh_4 post (nI n) 7 8 0 1 2 3 4 5 6 7 8 9 32 1024 (nI fa) (nI fl) (nI fc) (nI N.2.2.2) (nI ml) (nI mb) (nI lc) (nI pr) (nI ob) im 256 (nI Q.2.2.2.2.2) kf (nI O.2.2.2.2.2) N.1 N.2.1 N.2.2.1 tr lf lr la lb ld lx lab bp bo nd Q.1 Q.2.1 Q.2.2.1 Q.2.2.2.1 Q.2.2.2.2.1 O.1 O.2.1 O.2.2.1 O.2.2.2.1 O.2.2.2.2.1 pl g (nI (dc_sm (dc_wn lr la lb ld nd) k)) (nI k) := by
    intro g
    induction g with
    | zero => intro k _ h; omega
    | succ g ih =>
      intro k hk hg
      refine pk_lt n k (fun h => ?_) (fun h => ?_)
      · have e : k = n + 1 := by omega
        subst e; exact K
      · have hv : vp_in (nI k) 32 := vp_in_nI (by omega) (by omega)
        have ek : (nI k).toNatClampNeg = k := nI_clamp (by omega)
        have ih' := ih (k + 1) (by omega) (by omega)
        have hs : dc_sm (dc_wn lr la lb ld nd) (k + 1) = dc_sm (dc_wn lr la lb ld nd) k + dc_wn lr la lb ld nd k := rfl
        have hW := H k (by omega)
        refine ⟨hv, ?_⟩
        rw [ek]
        refine br_c (fun z => nm_r (nI_1 k) ?_) (fun z => ⟨hv, nm_r hW.1 ⟨hv, dx_own hW.2.2.1 hW.2.1 hW.2.2.2.1 (nm_r (nI_add _ _) ⟨hv, dx_cw hW.2.1 (dc_wf_c hl H (by omega) hW.2.2.2.2.1) (nm_r (nI_add _ _) ⟨hv, dx_cw hW.2.1 (dc_wf_c hl H (by omega) hW.2.2.2.2.2) (nm_r (nI_add _ _) (nm_r (nI_1 k) ?_))⟩)⟩)⟩⟩)
        · rw [hs, show dc_wn lr la lb ld nd k = 0 from if_pos z] at ih'
          exact ih'
        · rw [hs, show dc_wn lr la lb ld nd k = dc_wl lr la lb ld k from if_neg z] at ih'
          unfold dc_wl at ih'
          rw [← Nat.add_assoc, ← Nat.add_assoc] at ih'
          exact ih'
  exact Exists.intro (n + 2) (main (n + 2) 0 (Nat.zero_le _) (by omega))
theorem dy_power {post : Int32 → Prop} {d : Nat} {x : Int32} (hx : x = nI d) (hd : d ≤ 3) (K : post (nI (dc_p d))) : wpY_power post (dc_Y fa fl ml mb fc lc kc yk yl yr yt lf lr ld la lb yn kF kR kN) x := by
  subst hx
  have : d = 0 ∨ d = 1 ∨ d = 2 ∨ d = 3 := by omega
  rcases this with rfl | rfl | rfl | rfl
  · exact br_f (by decide) K
  · exact br_t (by decide) (br_t rfl K)
  · exact br_t (by decide) (br_f (by decide) (br_t rfl K))
  · exact br_t (by decide) (br_f (by decide) (br_f (by decide) K))
theorem dy_cw {post : Int32 → Prop} {m d : Nat} {c : Int32} (hl : lc ≤ 32) (hm : m < lc) (H : ∀ k, k < lc → dc_WF lr la lb ld k) (hd : d ≤ 3) (hc : c = -1 ∨ ∃ i : Nat, i < m ∧ c = nI i) (K : post (nI (dc_cw ld c d))) : wpY_crossing post (dc_Y fa fl ml mb fc lc kc yk yl yr yt lf lr ld la lb yn kF kR kN) (nI d) c := by
  rcases hc with rfl | ⟨i, hi, rfl⟩
  · rw [dc_cw_m] at K
    exact br_t dc_n1 K
  · rw [dc_cw_n (by omega)] at K
    have hv : vp_in (nI i) 32 := vp_in_nI (by omega) (by omega)
    have h1 := (H i (by omega)).1
    have h2 := (H i (by omega)).2.1
    refine br_f (nI_pos (by omega)) (br_f (nI_ge (by omega) (by omega)) ⟨hv, ?_⟩)
    rw [nI_clamp (by omega)]
    refine pk_lt (dc_d ld i) d (fun h => dy_power rfl hd ⟨hv, dy_power h1 h2 ?_⟩) (fun h => ?_) h1
    · rw [pk_sub (dc_p_le (by omega))]; exact K
    · rw [show dc_p d - dc_p (dc_d ld i) = 0 by have := dc_p_le h; omega] at K
      exact K
theorem dc_i5 (s a : Nat) : nI s + 5 * nI a = nI (s + 5 * a) := (congrArg (nI s + ·) (pk_mul 5 a)).trans (nI_add _ _)
theorem dc_i3 (s a : Nat) : nI s + 3 * nI a = nI (s + 3 * a) := (congrArg (nI s + ·) (pk_mul 3 a)).trans (nI_add _ _)
theorem dc_i2 (s a : Nat) : nI s + 2 * nI a = nI (s + 2 * a) := (congrArg (nI s + ·) (pk_mul 2 a)).trans (nI_add _ _)
theorem dy_own {post : Int32 → Prop} {J : Int32 → Int32 → Prop} {s d : Nat} {x2 r : Int32} (hr : dc_RU r) (hd : d ≤ 3) (h8 : r = 8 → 1 ≤ d) (K : wY_neededWeight_124 post J (nI (s + dc_ow r d)) x2 (nI d) (nI fa) (nI fl) (nI ml) (nI mb) (nI fc) (nI lc) (nI kc) yk yl yr yt lf lr ld la lb yn kF kR kN) :
    (r = 7 → ∀ x : Int32, x = nI s + 1 → wY_neededWeight_46 post J x x2 (nI d) r (nI fa) (nI fl) (nI ml) (nI mb) (nI fc) (nI lc) (nI kc) yk yl yr yt lf lr ld la lb yn kF kR kN) ∧ (¬ r = 7 → wY_neededWeight_46 post J (nI s) x2 (nI d) r (nI fa) (nI fl) (nI ml) (nI mb) (nI fc) (nI lc) (nI kc) yk yl yr yt lf lr ld la lb yn kF kR kN) := by
  rcases hr with rfl | rfl | rfl | rfl | rfl | rfl | rfl | rfl | rfl
  · rw [dc_ow_0] at K
    exact br_f (by decide) (br_f (by decide) (br_f (by decide) (br_f (by decide) (br_f (by decide) (br_f (by decide) (br_f (by decide) K))))))
  · rw [dc_ow_1] at K
    exact br_f (by decide) (br_f (by decide) (br_t rfl (dy_power rfl hd (nm_r (nI_add _ _) (br_f (by decide) (br_f (by decide) (br_f (by decide) (br_f (by decide) K))))))))
  · rw [dc_ow_2] at K
    exact br_f (by decide) (br_f (by decide) (br_f (by decide) (br_t rfl (dy_power rfl hd (nm_r (dc_i3 _ _) (br_f (by decide) (br_f (by decide) (br_f (by decide) K))))))))
  · rw [dc_ow_3] at K
    exact br_f (by decide) (br_f (by decide) (br_f (by decide) (br_f (by decide) (br_t rfl (dy_power rfl hd (nm_r (dc_i2 _ _) K))))))
  · rw [dc_ow_4] at K
    exact br_f (by decide) (br_f (by decide) (br_f (by decide) (br_f (by decide) (br_f (by decide) (br_t rfl (dy_power rfl hd (nm_r (dc_i2 _ _) K)))))))
  · rw [dc_ow_5] at K
    exact br_f (by decide) (br_f (by decide) (br_f (by decide) (br_f (by decide) (br_f (by decide) (br_f (by decide) (br_f (by decide) K))))))
  · rw [dc_ow_6] at K
    exact br_f (by decide) (br_f (by decide) (br_f (by decide) (br_f (by decide) (br_f (by decide) (br_f (by decide) (br_t rfl (dy_power rfl hd (nm_r (dc_i2 _ _) K))))))))
  · rw [dc_ow_7] at K
    exact br_t rfl (nm_r (nI_1 s) (br_f (by decide) (br_f (by decide) (br_f (by decide) (br_f (by decide) (br_f (by decide) (br_f (by decide) K)))))))
  · rw [dc_ow_8] at K
    exact br_f (by decide) (br_t rfl (dy_power (d := d - 1) (dc_s1 (h8 rfl)) (by omega) (nm_r (dc_i5 _ _) (br_f (by decide) (br_f (by decide) (br_f (by decide) (br_f (by decide) (br_f (by decide) K))))))))
theorem dy_weigh {post : Int32 → Prop} (hl : lc ≤ 32) (H : ∀ k, k < lc → dc_WF lr la lb ld k) (K : post (nI (dc_sm (dc_wn lr la lb ld yn) lc))) : wpY_neededWeight post (dc_Y fa fl ml mb fc lc kc yk yl yr yt lf lr ld la lb yn kF kR kN) := by
  have main : ∀ g k, k ≤ lc → lc - k < g → wY_neededWeight_4 post (nI fa) (nI fl) (nI ml) (nI mb) (nI fc) (nI lc) (nI kc) yk yl yr yt lf lr ld la lb yn kF kR kN g (nI (dc_sm (dc_wn lr la lb ld yn) k)) (nI k) := by
    intro g
    induction g with
    | zero => intro k _ h; omega
    | succ g ih =>
      intro k hk hg
      refine pk_le lc k (fun h => ?_) (fun h => ?_)
      · have e : k = lc := by omega
        subst e; exact K
      · have hv : vp_in (nI k) 32 := vp_in_nI (by omega) (by omega)
        have ek : (nI k).toNatClampNeg = k := nI_clamp (by omega)
        have ih' := ih (k + 1) (by omega) (by omega)
        have hs : dc_sm (dc_wn lr la lb ld yn) (k + 1) = dc_sm (dc_wn lr la lb ld yn) k + dc_wn lr la lb ld yn k := rfl
        have hW := H k (by omega)
        refine ⟨hv, ?_⟩
        rw [ek]
        refine br_c (fun z => nm_r (nI_1 k) ?_) (fun z => ⟨hv, nm_r hW.1 ⟨hv, nm_e (dy_own hW.2.2.1 hW.2.1 hW.2.2.2.1 (And.intro hv ?_))⟩⟩)
        · rw [hs, show dc_wn lr la lb ld yn k = 0 from if_pos z] at ih'
          exact ih'
        · rw [hs, show dc_wn lr la lb ld yn k = dc_wl lr la lb ld k from if_neg z] at ih'
          unfold dc_wl at ih'
          rw [← Nat.add_assoc, ← Nat.add_assoc] at ih'
          rw [ek]
          exact dy_cw hl h H hW.2.1 hW.2.2.2.2.1 (nm_r (nI_add _ _) ⟨hv, dy_cw hl h H hW.2.1 hW.2.2.2.2.2 (nm_r (nI_add _ _) (nm_r (nI_1 k) ih'))⟩)
  exact Exists.intro (lc + 1) (main (lc + 1) 0 (Nat.zero_le _) (by omega))
end
end
section
/-! expand and compile of the component -/
theorem dc_LL_m {fa fc fc' : Nat} {N N' : dc_N} (hN : dc_NE fc fc' N N') {lf lr la lb ld lx lab bp : Nat → Int32} {n : Nat} (h : dc_LL fa fc N lf lr la lb ld lx lab bp n) : dc_LL fa fc' N' lf lr la lb ld lx lab bp n := by
  obtain ⟨⟨f, f1, f2⟩, h2, h3, h4⟩ := h
  refine ⟨⟨f, f1, Nat.lt_of_lt_of_le f2 hN.1⟩, h2, h3, ?_⟩
  rcases h4 with g | g | ⟨g1, g2, i, hla, ci, hr⟩ | ⟨m, b, g1, hla, rb, hb, hxi, hxm, hd, hr⟩
  · exact Or.inl g
  · exact Or.inr (Or.inl g)
  · refine Or.inr (Or.inr (Or.inl ⟨g1, g2, i, hla, ci, ?_⟩))
    rcases hr with hr | ⟨r0, rb, r, rf⟩ | ⟨r0, rb, l, rf⟩ | ⟨j, rb, cj, ⟨r0, rf⟩ | ⟨r0, rf⟩⟩
    · exact Or.inl hr
    · exact Or.inr (Or.inl ⟨r0, rb, r, dc_J_m hN rf⟩)
    · exact Or.inr (Or.inr (Or.inl ⟨r0, rb, l, dc_J_m hN rf⟩))
    · exact Or.inr (Or.inr (Or.inr ⟨j, rb, cj, Or.inl ⟨r0, dc_J_m hN rf⟩⟩))
    · exact Or.inr (Or.inr (Or.inr ⟨j, rb, cj, Or.inr ⟨r0, dc_J_m hN rf⟩⟩))
  · refine Or.inr (Or.inr (Or.inr ⟨m, b, g1, hla, rb, hb, hxi, hxm, hd, ?_⟩))
    rcases hr with ⟨r0, rf⟩ | ⟨r0, rf1, rf⟩
    · exact Or.inl ⟨r0, dc_J_m hN rf⟩
    · exact Or.inr ⟨r0, rf1, dc_J_m hN rf⟩
def dc_RT (la lb nd : Nat → Int32) (i : Nat) : Prop := ∀ j : Nat, j < i → ¬ nd j = 0 → ∃ q, j < q ∧ q ≤ i ∧ ¬ nd q = 0 ∧ (la q = nI j ∨ lb q = nI j)
theorem dc_RT_1 {la lb nd : Nat → Int32} {m i : Nat} (hm : m < 32) (h : dc_RT la lb nd m) (hla : la m = nI i) (hlb : lb m = -1) (hi : i < m) : (∀ q, i < q → q < m → nd q = 0) ∧ dc_RT la lb nd i := by
  have nm : ∀ j : Nat, j < m → (la m = nI j ∨ lb m = nI j) → j = i := by
    intro j hj e
    rcases e with e | e
    · exact dc_inj (e.symm.trans hla) (by omega) (by omega)
    · exact absurd (e.symm.trans hlb) (dc_ne1 (by omega))
  have h1 : ∀ d q, m - q = d → i < q → q < m → nd q = 0 := by
    intro d
    induction d using Nat.strongRecOn with
    | _ d ih =>
      intro q hd hq1 hq2
      by_cases z : nd q = 0
      · exact z
      · exfalso
        obtain ⟨q', a1, a2, a3, a4⟩ := h q hq2 z
        by_cases e : q' = m
        · subst e
          have := nm q hq2 a4
          omega
        · exact a3 (ih (m - q') (by omega) q' rfl (by omega) (by omega))
  refine ⟨fun q a b => h1 _ q rfl a b, ?_⟩
  intro j hj z
  obtain ⟨q', a1, a2, a3, a4⟩ := h j (by omega) z
  by_cases e : q' = m
  · subst e
    have := nm j (by omega) a4
    omega
  · by_cases e2 : q' ≤ i
    · exact ⟨q', a1, e2, a3, a4⟩
    · exact absurd (h1 _ q' rfl (by omega) (by omega)) a3
def dc_EX (fa fc lc : Nat) (lf lr la lb ld lx lab bp nd : Nat → Int32) (N0 N : dc_N) (O : dc_O) (pl : Nat → Int32) (m : Nat) : Prop :=
  dc_NE fc fc N0 N ∧ dc_NG fa fc N ∧ N.2.2.2 ≤ 32 + 3 * m ∧ dc_OK fa fc lf ld bp (dc_B lr lc) 3 N O (dc_sm (dc_wn lr la lb ld nd) m + m) ∧ (∀ i, i < m → ¬ nd i = 0 → dc_at lf lx O pl i) ∧
  (∀ t x f, dc_MT t → (dc_HM O O.2.2.2.2.2 t x f ↔ ∃ i, i < m ∧ ¬ nd i = 0 ∧ dc_SM lf lr lab i t x f)) ∧
  (∀ i, i < m → ¬ nd i = 0 → (∀ j, i < j → j < m → nd j = 0) → dc_RT la lb nd i → ∃ p : Nat, pl i = nI p ∧ p + 1 = O.2.2.2.2.2 ∧ dc_tc O p)
section
variable {fa fl fc ml mb lc pr ob : Nat} {im kf : Int32} {N N0 : dc_N} {tr lf lr la lb ld lx lab bp bo nd pl : Nat → Int32} {Q O : dc_O} {n : Nat}
theorem dc_EX_n {m : Nat} (h : dc_EX fa fc lc lf lr la lb ld lx lab bp nd N0 N O pl m) (z : nd m = 0) : dc_EX fa fc lc lf lr la lb ld lx lab bp nd N0 N O pl (m + 1) := by
  obtain ⟨h1, h2, h3, h4, h5, h6, h7⟩ := h
  refine ⟨h1, h2, by omega, ⟨h4.1, Nat.le_trans h4.2 ?_⟩, ?_, ?_, ?_⟩
  · show _ ≤ dc_sm (dc_wn lr la lb ld nd) m + dc_wn lr la lb ld nd m + (m + 1)
    omega
  · intro i hi hz
    by_cases e : i = m
    · subst e; exact absurd z hz
    · exact h5 i (by omega) hz
  · intro t x f hm
    rw [h6 t x f hm]
    constructor
    · rintro ⟨i, a, b⟩
      exact ⟨i, by omega, b⟩
    · rintro ⟨i, a, b, c⟩
      by_cases e : i = m
      · subst e; exact absurd z b
      · exact ⟨i, by omega, b, c⟩
  · intro i hi hz hb
    by_cases e : i = m
    · subst e; exact absurd z hz
    · exact h7 i (by omega) hz (fun j a b => hb j a (by omega))
theorem dc_EX_s {m p : Nat} {N' : dc_N} {O' : dc_O} (hn : n < lc) (hl : lc ≤ 32) (hmn : m ≤ n) (H : ∀ n, n < lc → dc_LL fa fc N lf lr la lb ld lx lab bp n) (hS : dc_NS la lb nd n) (hct : O.2.2.2.2.2 ≤ 256) (h : dc_EX fa fc lc lf lr la lb ld lx lab bp nd N0 N O pl m) (z : ¬ nd m = 0) (st : dc_XS fa fc lf lr la lb ld lx lab bp (dc_B lr lc) N O pl (dc_sm (dc_wn lr la lb ld nd) m + m) m N' O' p) : dc_EX fa fc lc lf lr la lb ld lx lab bp nd N0 N' O' (upd pl m (nI p)) (m + 1) := by
  obtain ⟨h1, h2, h3, h4, h5, h6, h7⟩ := h
  obtain ⟨s1, s2, s3, s4, s5, s6, s7, s8, s9, s10⟩ := st
  refine ⟨dc_NE_t h1 s1, s2, by omega, ⟨s5.1, Nat.le_trans s5.2 ?_⟩, ?_, ?_, ?_⟩
  · show _ ≤ dc_sm (dc_wn lr la lb ld nd) m + dc_wn lr la lb ld nd m + (m + 1)
    rw [show dc_wn lr la lb ld nd m = dc_wl lr la lb ld m from if_neg z]
    omega
  · intro i hi hz
    by_cases e : i = m
    · subst e
      exact ⟨p, pk_us, s6, s7, s8⟩
    · obtain ⟨q, q1, q2, q3, q4⟩ := h5 i (by omega) hz
      obtain ⟨a1, a2, a3, a4, a5⟩ := s4.2 q q2
      exact ⟨q, (pk_un e).trans q1, Nat.lt_of_lt_of_le q2 s4.1, a5.trans q3, a2.trans q4⟩
  · intro t x f hm
    rw [s9 t x f hm, h6 t x f hm]
    constructor
    · rintro (⟨i, a, b⟩ | b)
      · exact ⟨i, by omega, b⟩
      · exact ⟨m, by omega, z, b⟩
    · rintro ⟨i, a, b, c⟩
      by_cases e : i = m
      · subst e; exact Or.inr c
      · exact Or.inl ⟨i, by omega, b, c⟩
  · intro i hi hz hb hR
    by_cases e : i = m
    · subst e
      obtain ⟨g1, g2⟩ := s10 (by
        intro hr i' q hi' hq hla hpl
        have hL := H i (by omega)
        have hlb : lb i = -1 ∧ i' < i := by
          rcases hL.2.2.2 with g | g | ⟨g1, g2, k, hk, ci, g3⟩ | ⟨k, b, g1, hk, rb, _⟩
          · rcases hr with hr | hr <;> exact absurd (g.1.symm.trans hr) (by decide)
          · rcases hr with hr | hr <;> exact absurd (g.1.symm.trans hr) (by decide)
          · have := dc_inj (hla.symm.trans hk) (by omega) (by have := ci.1; omega)
            subst this
            refine ⟨?_, ci.1⟩
            rcases g3 with ⟨r0, rb, _⟩ | ⟨r0, rb, _⟩ | ⟨r0, rb, _⟩ | ⟨j, rb, cj, ⟨r0, _⟩ | ⟨r0, _⟩⟩
            · exact rb
            · exact rb
            · exact rb
            · rcases hr with hr | hr <;> exact absurd (r0.symm.trans hr) (by decide)
            · rcases hr with hr | hr <;> exact absurd (r0.symm.trans hr) (by decide)
          · have := dc_inj (hla.symm.trans hk) (by omega) (by omega)
            exact ⟨rb, by omega⟩
        obtain ⟨r1, r2⟩ := dc_RT_1 (by omega) hR hla hlb.1 hlb.2
        obtain ⟨q', q1, q2, q3⟩ := h7 i' hlb.2 (hS.2.2.1 i i' hmn hz (Or.inl hla) hi') r1 r2
        have := dc_inj (hpl.symm.trans q1) (by omega) (by omega)
        subst this
        exact ⟨q2, q3⟩)
      exact ⟨p, pk_us, g1, g2⟩
    · exact absurd (hb m (by omega) (by omega)) z
theorem dx_expand_l {post : SX → Prop} (hn : n < lc) (hl : lc ≤ 32) (H : ∀ n, n < lc → dc_LL fa fc N0 lf lr la lb ld lx lab bp n) (hS : dc_NS la lb nd n) (hW : dc_sm (dc_wn lr la lb ld nd) (n + 1) ≤ 192)
    (K : ∀ (N : dc_N) (O : dc_O) (pl : Nat → Int32) (Q' : dc_O), dc_EX fa fc lc lf lr la lb ld lx lab bp nd N0 N O pl (n + 1) → Q'.2.2.2.2.2 = O.2.2.2.2.2 → dc_SQ O Q' O.2.2.2.2.2 → post (dc_X fa fl fc ml mb lc pr ob im kf N tr lf lr la lb ld lx lab bp bo nd Q' O pl)) :
    ∀ (g m : Nat) (N : dc_N) (O : dc_O) (pl : Nat → Int32), m ≤ n + 1 → n + 1 - m < g → dc_EX fa fc lc lf lr la lb ld lx lab bp nd N0 N O pl m → wX_expand_7 post (nI n) g (nI m) 7 8 0 1 2 3 4 5 6 7 8 9 32 1024 (nI fa) (nI fl) (nI fc) (nI N.2.2.2) (nI ml) (nI mb) (nI lc) (nI pr) (nI ob) im 256 (nI Q.2.2.2.2.2) kf (nI O.2.2.2.2.2) N.1 N.2.1 N.2.2.1 tr lf lr la lb ld lx lab bp bo nd Q.1 Q.2.1 Q.2.2.1 Q.2.2.2.1 Q.2.2.2.2.1 O.1 O.2.1 O.2.2.1 O.2.2.2.1 O.2.2.2.2.1 pl := by
  intro g
  induction g with
  | zero => intro m N O pl _ h; omega
  | succ g ih =>
    intro m N O pl hm hg hE
    have hct := dc_OK_ct hE.2.2.2.1
    have hs1 := dc_sm_le (w := dc_wn lr la lb ld nd) hm
    refine pk_lt n m (fun h => ?_) (fun h => ?_)
    · have e : m = n + 1 := by omega
      subst e
      exact dx_commit (by omega) (fun Q' e1 e2 => K N O pl Q' hE e1 e2)
    · have hv : vp_in (nI m) 32 := vp_in_nI (by omega) (by omega)
      have hv2 : vp_in (nI m) 256 := vp_in_nI (by omega) (by omega)
      have em : (nI m).toNatClampNeg = m := nI_clamp (by omega)
      have hs2 := dc_sm_le (w := dc_wn lr la lb ld nd) (a := m + 1) (b := n + 1) (by omega)
      have hs3 : dc_sm (dc_wn lr la lb ld nd) (m + 1) = dc_sm (dc_wn lr la lb ld nd) m + dc_wn lr la lb ld nd m := rfl
      have H' : ∀ n, n < lc → dc_LL fa fc N lf lr la lb ld lx lab bp n := fun k hk => dc_LL_m hE.1 (H k hk)
      refine ⟨hv, ?_⟩
      rw [em]
      refine br_c (fun z => nm_r (nI_1 m) (ih (m + 1) N O pl (by omega) (by omega) (dc_EX_n hE z))) (fun z => ?_)
      rw [show dc_wn lr la lb ld nd m = dc_wl lr la lb ld m from if_neg z] at hs3
      have h3 := hE.2.2.1
      refine dx_xline hl H' (by omega) hE.2.1 hE.2.2.2.1 (by omega) (by omega) ?_ (fun N' O' p st => ⟨hv2, nm_e (nm_r (nI_1 m) (ih (m + 1) N' O' _ (by omega) (by omega) (dc_EX_s hn hl h H' hS (by omega) hE z st)))⟩)
      intro i hi hc
      exact hE.2.2.2.2.1 i hi (hS.2.2.1 m i h z hc (by omega))
theorem dx_expand {post : SX → Prop} (hn : n < lc) (hl : lc ≤ 32) (h0 : dc_d ld n = 0) (hG : dc_NG fa fc N) (ht : N.2.2.2 = 32) (H : ∀ n, n < lc → dc_LL fa fc N lf lr la lb ld lx lab bp n) (hS : dc_NS la lb nd n) (hW : dc_sm (dc_wn lr la lb ld nd) (n + 1) ≤ 192)
    (K : ∀ (N' : dc_N) (O' : dc_O) (pl' : Nat → Int32) (Q' : dc_O), dc_PF fa fc lf ld bp (dc_B lr lc) (lf n) (fun t x f => ∃ i, i < n + 1 ∧ ¬ nd i = 0 ∧ dc_SM lf lr lab i t x f) 3 N' Q' → N'.2.2.2 ≤ 128 → dc_NE fc fc N N' → post (dc_X fa fl fc ml mb lc pr ob im kf N' tr lf lr la lb ld lx lab bp bo nd Q' O' pl')) : wpX_expand post (dc_X fa fl fc ml mb lc pr ob im kf N tr lf lr la lb ld lx lab bp bo nd Q O pl) (nI n) := by
  refine Exists.intro (n + 2) (dx_expand_l (N0 := N) hn hl H hS hW ?_ (n + 2) 0 N (O.1, O.2.1, O.2.2.1, O.2.2.2.1, O.2.2.2.2.1, 0) pl (Nat.zero_le _) (by omega) ?_)
  · intro N' O' pl' Q' E e1 e2
    obtain ⟨h1, h2, h3, h4, h5, h6, h7⟩ := E
    have hct := dc_OK_ct h4
    refine K N' O' pl' Q' ⟨h2, dc_OK_c (by omega) e1 e2 ⟨h4.1, Nat.le_trans h4.2 (by omega)⟩, ?_, ?_⟩ (by omega) h1
    · obtain ⟨q, q1, q2, q3⟩ := h7 n (by omega) hS.1 (fun j a b => by omega) hS.2.2.2
      obtain ⟨q', r1, r2, r3, r4⟩ := h5 n (by omega) hS.1
      have := dc_inj (q1.symm.trans r1) (by omega) (by omega)
      subst this
      obtain ⟨w1, w2, w3, w4, w5⟩ := e2 q r2
      have hx : lx n = -1 := by
        rcases dc_SB_all hl H n hn with s | ⟨b, _, _, _, _, s5, _⟩
        · exact s.1
        · omega
      exact ⟨q, by omega, dc_tc_m (dc_SQ_OE e1 e2) q r2 q3, by rw [w2, r4], by rw [w5, r3, hx]⟩
    · intro t x f hm
      rw [dc_HM_c e1 e2 hm, h6 t x f hm]
  · refine ⟨dc_NE_r, hG, by omega, ⟨fun k hk => absurd hk (Nat.not_lt_zero _), (by show 0 ≤ _; exact Nat.zero_le _)⟩, fun i hi => absurd hi (Nat.not_lt_zero _), fun t x f _ => ?_, fun i hi => absurd hi (Nat.not_lt_zero _)⟩
    exact ⟨fun ⟨k, hk, _⟩ => absurd hk (Nat.not_lt_zero _), fun ⟨k, hk, _⟩ => absurd hk (Nat.not_lt_zero _)⟩
theorem dx_compile {post : Int32 → SX → Prop} (hn : n < lc) (hl : lc ≤ 32) (h0 : dc_d ld n = 0) (hG : dc_NG fa fc (N.1, N.2.1, N.2.2.1, 32)) (H : ∀ n, n < lc → dc_LL fa fc (N.1, N.2.1, N.2.2.1, 32) lf lr la lb ld lx lab bp n)
    (Kh : ∀ nd', dc_NS la lb nd' n → 192 < dc_sm (dc_wn lr la lb ld nd') (n + 1) → post (-8) (dc_X fa fl fc ml mb lc pr ob im kf N tr lf lr la lb ld lx lab bp bo nd' Q O pl))
    (K : ∀ (nd' : Nat → Int32) (N' : dc_N) (O' : dc_O) (pl' : Nat → Int32) (Q' : dc_O), dc_NS la lb nd' n → dc_sm (dc_wn lr la lb ld nd') (n + 1) ≤ 192 → dc_PF fa fc lf ld bp (dc_B lr lc) (lf n) (fun t x f => ∃ i, i < n + 1 ∧ ¬ nd' i = 0 ∧ dc_SM lf lr lab i t x f) 0 N' Q' → dc_NE fc fc (N.1, N.2.1, N.2.2.1, 32) N' → post 0 (dc_X fa fl fc ml mb lc pr ob im (lf n) N' tr lf lr la lb ld lx lab bp bo nd' Q' O' pl')) : wpX_compile post (dc_X fa fl fc ml mb lc pr ob im kf N tr lf lr la lb ld lx lab bp bo nd Q O pl) (nI n) := by
  have hv : vp_in (nI n) 32 := vp_in_nI (by omega) (by omega)
  have en : (nI n).toNatClampNeg = n := nI_clamp (by omega)
  have HW : ∀ k, k < lc → dc_WF lr la lb ld k := fun k hk => dc_LL_WF (H k hk)
  have F := dc_BF_all hl H
  have hC : dc_CB la lb n := fun q hq => (HW q (by omega)).2.2.2.2
  have hld : ld n = 0 := by rw [(HW n hn).1, h0]; rfl
  refine br_f (nI_pos (by omega)) (br_f (nI_ge hn (by omega)) (br_f dc_10 ⟨hv, ?_⟩))
  rw [en]
  refine br_t hld (dx_mark (by omega) hC (fun nd' hS => dx_weigh hl hn HW ?_))
  have hb : dc_sm (dc_wn lr la lb ld nd') (n + 1) ≤ (n + 1) * 200 := dc_sm_b (fun k hk => dc_wn_b (HW k (by omega)))
  refine pk_le (dc_sm (dc_wn lr la lb ld nd') (n + 1)) 192 (fun h => ?_) (fun h => Kh nd' hS h)
  refine dx_expand (N := (N.1, N.2.1, N.2.2.1, 32)) hn hl h0 hG rfl H hS h (fun N1 O1 pl1 Q1 P1 t1 n1 => Exists.intro 4 ?_)
  refine br_f (by decide) (dx_elim (L := 2) F (by omega) P1 (by omega) (fun N2 O2 pl2 Q2 P2 t2 n2 => nm_r (pk_m1 2) ?_))
  refine br_f (by decide) (dx_elim (L := 1) F (by omega) P2 (by omega) (fun N3 O3 pl3 Q3 P3 t3 n3 => nm_r (pk_m1 1) ?_))
  refine br_f (by decide) (dx_elim (L := 0) F (by omega) P3 (by omega) (fun N4 O4 pl4 Q4 P4 t4 n4 => nm_r (pk_m1 0) ?_))
  refine br_t (by decide) ⟨hv, nm_r (congrArg lf en) ?_⟩
  exact K nd' N4 O4 pl4 Q4 hS h P4 (dc_NE_t n1 (dc_NE_t n2 (dc_NE_t n3 n4)))
end
end
section
/-! compile of the reference -/
def dc_KI (nx lf lr kF kR kN : Nat → Int32) (kc j : Nat) : Prop :=
  kc ≤ j ∧ (∀ q, q < kc → ∃ m, m < j ∧ ¬ nx m = 0 ∧ kF q = lf m ∧ kR q = lr m ∧ kN q = nI (dc_np lr m)) ∧
  (∀ m, m < j → ¬ nx m = 0 → ∃ q, q < kc ∧ kF q = lf m ∧ kR q = lr m ∧ kN q = nI (dc_np lr m)) ∧
  (∀ m, m + 1 = j → ¬ nx m = 0 → ∃ q, q + 1 = kc ∧ kF q = lf m)
theorem dc_KI_n {nx lf lr kF kR kN : Nat → Int32} {kc j : Nat} (h : dc_KI nx lf lr kF kR kN kc j) (z : nx j = 0) : dc_KI nx lf lr kF kR kN kc (j + 1) := by
  obtain ⟨h1, h2, h3, h4⟩ := h
  refine ⟨by omega, ?_, ?_, ?_⟩
  · intro q hq
    obtain ⟨m, a, b⟩ := h2 q hq
    exact ⟨m, by omega, b⟩
  · intro m hm hz
    by_cases e : m = j
    · subst e; exact absurd z hz
    · exact h3 m (by omega) hz
  · intro m hm hz
    have e : m = j := by omega
    subst e; exact absurd z hz
theorem dc_KI_s {nx lf lr kF kR kN : Nat → Int32} {kc j : Nat} (h : dc_KI nx lf lr kF kR kN kc j) (z : ¬ nx j = 0) : dc_KI nx lf lr (upd kF kc (lf j)) (upd kR kc (lr j)) (upd kN kc (nI (dc_np lr j))) (kc + 1) (j + 1) := by
  obtain ⟨h1, h2, h3, h4⟩ := h
  refine ⟨by omega, ?_, ?_, ?_⟩
  · intro q hq
    by_cases e : q = kc
    · subst e
      exact ⟨j, by omega, z, pk_us, pk_us, pk_us⟩
    · obtain ⟨m, a, b, c, d, f⟩ := h2 q (by omega)
      exact ⟨m, by omega, b, (pk_un e).trans c, (pk_un e).trans d, (pk_un e).trans f⟩
  · intro m hm hz
    by_cases e : m = j
    · subst e
      exact ⟨kc, by omega, pk_us, pk_us, pk_us⟩
    · obtain ⟨q, a, b, c, d⟩ := h3 m (by omega) hz
      have e' : q ≠ kc := by omega
      exact ⟨q, by omega, (pk_un e').trans b, (pk_un e').trans c, (pk_un e').trans d⟩
  · intro m hm hz
    have e : m = j := by omega
    subst e
    exact ⟨kc, rfl, pk_us⟩
theorem dc_np_s {lr : Nat → Int32} {j : Nat} : dc_np lr (j + 1) = dc_np lr j + (if lr j = 7 then 1 else 0) := rfl
theorem dc_np_le {lr : Nat → Int32} {a b : Nat} (h : a ≤ b) : dc_np lr a ≤ dc_np lr b := by
  induction b with
  | zero => have : a = 0 := by omega
            subst this; exact Nat.le_refl _
  | succ b ih =>
    by_cases e : a = b + 1
    · subst e; exact Nat.le_refl _
    · have := ih (by omega)
      rw [dc_np_s]
      omega
theorem dc_np_lt {lr : Nat → Int32} {a b : Nat} (h : a < b) (h7 : lr a = 7) : dc_np lr a < dc_np lr b := by
  have h1 := dc_np_le (lr := lr) (a := a + 1) (b := b) h
  rw [dc_np_s, if_pos h7] at h1
  omega
theorem dc_wn_eq {lr la lb ld yn nx : Nat → Int32} {j : Nat} (h : ¬ yn j = 0 ↔ ¬ nx j = 0) : dc_wn lr la lb ld yn j = dc_wn lr la lb ld nx j := by
  unfold dc_wn
  by_cases z : nx j = 0
  · have z' : yn j = 0 := by
      by_cases q : yn j = 0
      · exact q
      · exact absurd z (h.mp q)
    rw [if_pos z, if_pos z']
  · rw [if_neg z, if_neg (h.mpr z)]
theorem dc_W_eq {lr la lb ld yn nx : Nat → Int32} {n lc : Nat} (hn : n < lc) (hl : lc ≤ 32) (hS : dc_NS la lb nx n) (ha : ∀ j, j < 32 → (¬ yn j = 0 ↔ ¬ nx j = 0)) : dc_sm (dc_wn lr la lb ld yn) lc = dc_sm (dc_wn lr la lb ld nx) (n + 1) := by
  rw [dc_sm_eq (v := dc_wn lr la lb ld nx) (fun k hk => dc_wn_eq (ha k (by omega)))]
  have main : ∀ d, n + 1 + d ≤ lc → dc_sm (dc_wn lr la lb ld nx) (n + 1 + d) = dc_sm (dc_wn lr la lb ld nx) (n + 1) := by
    intro d
    induction d with
    | zero => intro _; rfl
    | succ d ih =>
      intro h
      have z : dc_wn lr la lb ld nx (n + 1 + d) = 0 := if_pos (hS.2.1 (n + 1 + d) (by omega) (by omega))
      show dc_sm (dc_wn lr la lb ld nx) (n + 1 + d) + dc_wn lr la lb ld nx (n + 1 + d) = _
      rw [z, ih (by omega)]
      rfl
  have := main (lc - (n + 1)) (by omega)
  rw [show n + 1 + (lc - (n + 1)) = lc by omega] at this
  exact this
section
variable {fa fl fc ml mb lc kc : Nat} {lf lr la lb ld nx yk yl yr yt yn kF kR kN : Nat → Int32} {n : Nat}
theorem dy_comp_l {post : Int32 → SY → Prop} (hn : n < lc) (hl : lc ≤ 32) (K : ∀ kc kF kR kN, dc_KI yn lf lr kF kR kN kc (n + 1) → post 0 (dc_Y fa fl ml mb fc lc kc yk yl yr yt lf lr ld la lb yn kF kR kN)) : ∀ (g j kc : Nat) (kF kR kN : Nat → Int32), j ≤ n + 1 → n + 1 - j < g → dc_KI yn lf lr kF kR kN kc j → wY_compile_51 post (nI n) (nI fa) (nI fl) (nI ml) (nI mb) (nI fc) (nI lc) g (nI (dc_np lr j)) (nI j) (nI kc) yk yl yr yt lf lr ld la lb yn kF kR kN := by
  intro g
  induction g with
  | zero => intro j kc kF kR kN _ h; omega
  | succ g ih =>
    intro j kc kF kR kN hj hg hI
    refine pk_lt n j (fun h => ?_) (fun h => ?_)
    · have e : j = n + 1 := by omega
      subst e; exact K kc kF kR kN hI
    · have hv : vp_in (nI j) 32 := vp_in_nI (by omega) (by omega)
      have ej : (nI j).toNatClampNeg = j := nI_clamp (by omega)
      have fin : ∀ (kc : Nat) (kF kR kN : Nat → Int32), dc_KI yn lf lr kF kR kN kc (j + 1) → wY_compile_123 post (wY_compile_51 post (nI n) (nI fa) (nI fl) (nI ml) (nI mb) (nI fc) (nI lc) g) (nI n) (nI (dc_np lr j)) (nI j) (nI fa) (nI fl) (nI ml) (nI mb) (nI fc) (nI lc) (nI kc) yk yl yr yt lf lr ld la lb yn kF kR kN := by
        intro kc kF kR kN h'
        have g' := ih (j + 1) kc kF kR kN (by omega) (by omega) h'
        refine And.intro hv ?_
        rw [ej]
        refine br_c (fun z => nm_r (nI_1 _) (nm_r (nI_1 j) ?_)) (fun z => nm_r (nI_1 j) ?_)
        · rw [dc_np_s, if_pos z] at g'
          exact g'
        · rw [dc_np_s, if_neg z] at g'
          exact g'
      refine br_f (nI_ge (by omega) (by omega)) ⟨hv, ?_⟩
      rw [ej]
      have hk : kc < 32 := by have := hI.1; omega
      have hvk : vp_in (nI kc) 32 := vp_in_nI hk (by omega)
      have ekc : (nI kc).toNatClampNeg = kc := nI_clamp (by omega)
      refine br_c (fun z => fin kc kF kR kN (dc_KI_n hI z)) (fun z => ⟨hv, hvk, nm_r (congrArg (fun q => upd kF q (lf j)) ekc) ⟨hv, hvk, nm_r (congrArg (fun q => upd kR q (lr j)) ekc) ⟨hvk, nm_r (congrArg (fun q => upd kN q (nI (dc_np lr j))) ekc) (nm_r (nI_1 kc) ?_)⟩⟩⟩)
      exact fin (kc + 1) _ _ _ (dc_KI_s hI z)
theorem dy_compile {post : Int32 → SY → Prop} (hn : n < lc) (hl : lc ≤ 32) (h0 : dc_d ld n = 0) (HW : ∀ k, k < lc → dc_WF lr la lb ld k) (hS : dc_NS la lb nx n)
    (Kh : ∀ yn', 192 < dc_sm (dc_wn lr la lb ld nx) (n + 1) → post (-8) (dc_Y fa fl ml mb fc lc kc yk yl yr yt lf lr ld la lb yn' kF kR kN))
    (K : ∀ (yn' : Nat → Int32) (kc' : Nat) (kF' kR' kN' : Nat → Int32), dc_sm (dc_wn lr la lb ld nx) (n + 1) ≤ 192 → dc_KI nx lf lr kF' kR' kN' kc' (n + 1) → post 0 (dc_Y fa fl ml mb fc lc kc' yk yl yr yt lf lr ld la lb yn' kF' kR' kN')) : wpY_compile post (dc_Y fa fl ml mb fc lc kc yk yl yr yt lf lr ld la lb yn kF kR kN) (nI n) := by
  have hv : vp_in (nI n) 32 := vp_in_nI (by omega) (by omega)
  have en : (nI n).toNatClampNeg = n := nI_clamp (by omega)
  have hC : dc_CB la lb n := fun q hq => (HW q (by omega)).2.2.2.2
  have hld : ld n = 0 := by rw [(HW n hn).1, h0]; rfl
  refine br_f (nI_pos (by omega)) (br_f (nI_ge hn (by omega)) ⟨hv, ?_⟩)
  rw [en]
  refine br_t hld (dy_mark hn hl hC hS (fun yn' ha => dy_weigh hl HW ?_))
  rw [dc_W_eq hn hl hS ha]
  have hb : dc_sm (dc_wn lr la lb ld nx) (n + 1) ≤ (n + 1) * 200 := dc_sm_b (fun k hk => dc_wn_b (HW k (by omega)))
  refine pk_le (dc_sm (dc_wn lr la lb ld nx) (n + 1)) 192 (fun h => ?_) (fun h => Kh yn' h)
  refine Exists.intro (n + 2) (dy_comp_l hn hl ?_ (n + 2) 0 0 kF kR kN (Nat.zero_le _) (by omega) ?_)
  · intro kc' kF' kR' kN' hI
    refine K yn' kc' kF' kR' kN' h ?_
    obtain ⟨h1, h2, h3, h4⟩ := hI
    refine ⟨h1, ?_, ?_, ?_⟩
    · intro q hq
      obtain ⟨m, a, b, c⟩ := h2 q hq
      exact ⟨m, a, (ha m (by omega)).mp b, c⟩
    · intro m hm hz
      exact h3 m hm ((ha m (by omega)).mpr hz)
    · intro m hm hz
      exact h4 m hm ((ha m (by omega)).mpr hz)
  · exact ⟨Nat.le_refl _, fun q hq => absurd hq (Nat.not_lt_zero _), fun m hm => absurd hm (Nat.not_lt_zero _), fun m hm => by omega⟩
end
end
section
/-! the relation -/
def dc_PU (fc : Nat) (N : dc_N) : Prop := ∀ n m, n < fc → m < fc → N.1 n = N.1 m → (N.1 n = 2 ∨ N.1 n = 3) → N.2.1 n = N.2.1 m → N.2.2.1 n = N.2.2.1 m → n = m
def dc_PY (fa fc : Nat) (N : dc_N) (yk yl yr : Nat → Int32) : Prop := ∀ n, n < fc → yk n = N.1 n ∧ (fa < n → yl n = N.2.1 n ∧ yr n = N.2.2.1 n)
def dc_CI (ld : Nat → Int32) (lc i : Nat) : Prop := ∀ k, i < k → k < lc → dc_d ld i ≤ dc_d ld k
def dc_LN (fa fc : Nat) (N : dc_N) (lf lr la lb ld lx lab bp bo : Nat → Int32) (lc pr ob : Nat) (im : Int32) : Prop :=
  (∀ n, n < lc → dc_LL fa fc N lf lr la lb ld lx lab bp n) ∧ im = dc_pb lx lc ∧ ob = dc_pd ld lc ∧ pr = dc_np lr lc ∧
  (∀ b, b < lc → lr b = 8 → (¬ bo b = 0 ↔ dc_CI ld lc b))
def dc_KL (fa fc : Nat) (N : dc_N) (Q : dc_O) (k : Nat) : Prop :=
  dc_V fc N (Q.2.1 k) ∧ ((Q.1 k = 1 ∧ ∃ p : Nat, p < 8 ∧ Q.2.2.1 k = nI p) ∨
   (Q.1 k = 2 ∧ ∃ i j : Nat, i < k ∧ j < k ∧ Q.2.2.1 k = nI i ∧ Q.2.2.2.1 k = nI j ∧ dc_I fc N 2 (Q.2.1 i) (Q.2.1 j) (Q.2.1 k)) ∨ dc_AX fc N (nI fa) (Q.1 k) (Q.2.1 k))
def dc_KP (fa fc : Nat) (N : dc_N) (Q : dc_O) (kf : Int32) (kc : Nat) (kF kR kN : Nat → Int32) : Prop :=
  (kc = 0 ∧ kf = -1) ∨
  (kc ≤ 32 ∧ (∃ q c : Nat, q + 1 = kc ∧ c < fc ∧ kf = nI c ∧ kF q = nI c) ∧ Q.2.2.2.2.2 ≤ 256 ∧ (∃ p : Nat, Q.2.2.2.2.2 = p + 1 ∧ Q.2.1 p = kf) ∧ (∀ k, k < Q.2.2.2.2.2 → dc_KL fa fc N Q k) ∧
   (∀ t x f, dc_MT t → (dc_HM Q Q.2.2.2.2.2 t x f ↔ ∃ q, q < kc ∧ dc_SM kF kR kN q t x f)) ∧
   (∀ q, q < kc → kR q = 7 → ∃ p g : Nat, p < 8 ∧ kN q = nI p ∧ g < fc ∧ kF q = nI g) ∧
   (∀ q q', q < kc → q' < kc → kR q = 7 → kR q' = 7 → kN q = kN q' → kF q = kF q'))
def dc_G (fa fl fc ml mb lc pr ob : Nat) (im kf : Int32) (N : dc_N) (lf lr la lb ld lx lab bp bo : Nat → Int32) (Q : dc_O) (kc : Nat) (yk yl yr kF kR kN : Nat → Int32) : Prop :=
  (fl ≤ 32 ∧ ml ≤ 32 ∧ mb ≤ 3 ∧ fc ≤ fl ∧ lc ≤ ml ∧ pr ≤ 8 ∧ ob ≤ mb) ∧ dc_NW fa fc N ∧ dc_PU fc N ∧ dc_PY fa fc N yk yl yr ∧ dc_LN fa fc N lf lr la lb ld lx lab bp bo lc pr ob im ∧ dc_KP fa fc N Q kf kc kF kR kN
def i_Rel (_ : Nat) (u : SX) (v : SY) : Prop :=
  ∃ (fa fl fc ml mb lc pr ob kc : Nat) (im kf : Int32) (N : dc_N) (tr lf lr la lb ld lx lab bp bo nd : Nat → Int32) (Q O : dc_O) (pl yk yl yr yt yn kF kR kN : Nat → Int32),
    u = (dc_X fa fl fc ml mb lc pr ob im kf N tr lf lr la lb ld lx lab bp bo nd Q O pl) ∧ v = (dc_Y fa fl ml mb fc lc kc yk yl yr yt lf lr ld la lb yn kF kR kN) ∧ dc_G fa fl fc ml mb lc pr ob im kf N lf lr la lb ld lx lab bp bo Q kc yk yl yr kF kR kN
theorem i_up {k : Nat} {u : SX} {v : SY} (h : i_Rel k u v) : i_Rel (k + 5) u v := h
theorem dc_mk {k : Nat} {fa fl fc ml mb lc pr ob kc : Nat} {im kf : Int32} {N : dc_N} {tr lf lr la lb ld lx lab bp bo nd : Nat → Int32} {Q O : dc_O} {pl yk yl yr yt yn kF kR kN : Nat → Int32}
    (g : dc_G fa fl fc ml mb lc pr ob im kf N lf lr la lb ld lx lab bp bo Q kc yk yl yr kF kR kN) : i_Rel k (dc_X fa fl fc ml mb lc pr ob im kf N tr lf lr la lb ld lx lab bp bo nd Q O pl) (dc_Y fa fl ml mb fc lc kc yk yl yr yt lf lr ld la lb yn kF kR kN) :=
  ⟨fa, fl, fc, ml, mb, lc, pr, ob, kc, im, kf, N, tr, lf, lr, la, lb, ld, lx, lab, bp, bo, nd, Q, O, pl, yk, yl, yr, yt, yn, kF, kR, kN, rfl, rfl, g⟩
theorem dc_el {P : SX → SY → Prop} {k : Nat} {u : SX} {v : SY} (I : i_Rel k u v)
    (h : ∀ (fa fl fc ml mb lc pr ob kc : Nat) (im kf : Int32) (N : dc_N) (tr lf lr la lb ld lx lab bp bo nd : Nat → Int32) (Q O : dc_O) (pl yk yl yr yt yn kF kR kN : Nat → Int32),
      dc_G fa fl fc ml mb lc pr ob im kf N lf lr la lb ld lx lab bp bo Q kc yk yl yr kF kR kN → P (dc_X fa fl fc ml mb lc pr ob im kf N tr lf lr la lb ld lx lab bp bo nd Q O pl) (dc_Y fa fl ml mb fc lc kc yk yl yr yt lf lr ld la lb yn kF kR kN)) : P u v :=
  Exists.elim I fun fa I => Exists.elim I fun fl I => Exists.elim I fun fc I => Exists.elim I fun ml I => Exists.elim I fun mb I => Exists.elim I fun lc I => Exists.elim I fun pr I => Exists.elim I fun ob I => Exists.elim I fun kc I =>
  Exists.elim I fun im I => Exists.elim I fun kf I => Exists.elim I fun N I => Exists.elim I fun tr I => Exists.elim I fun lf I => Exists.elim I fun lr I => Exists.elim I fun la I => Exists.elim I fun lb I => Exists.elim I fun ld I => Exists.elim I fun lx I => Exists.elim I fun lab I => Exists.elim I fun bp I => Exists.elim I fun bo I => Exists.elim I fun nd I =>
  Exists.elim I fun Q I => Exists.elim I fun O I => Exists.elim I fun pl I => Exists.elim I fun yk I => Exists.elim I fun yl I => Exists.elim I fun yr I => Exists.elim I fun yt I => Exists.elim I fun yn I => Exists.elim I fun kF I => Exists.elim I fun kR I => Exists.elim I fun kN I =>
  I.1 ▸ I.2.1 ▸ h fa fl fc ml mb lc pr ob kc im kf N tr lf lr la lb ld lx lab bp bo nd Q O pl yk yl yr yt yn kF kR kN I.2.2
theorem dc_KL_m {fa fc fc' : Nat} {N N' : dc_N} {Q : dc_O} {k : Nat} (hN : dc_NE fc fc' N N') (h : dc_KL fa fc N Q k) : dc_KL fa fc' N' Q k := by
  refine ⟨dc_V_m hN h.1, ?_⟩
  rcases h.2 with h | ⟨h0, i, j, h1, h2, h3, h4, h5⟩ | h
  · exact Or.inl h
  · exact Or.inr (Or.inl ⟨h0, i, j, h1, h2, h3, h4, dc_I_m hN h5⟩)
  · exact Or.inr (Or.inr (dc_AX_m hN h))
theorem dc_KP_m {fa fc fc' : Nat} {N N' : dc_N} {Q : dc_O} {kf : Int32} {kc : Nat} {kF kR kN : Nat → Int32} (hN : dc_NE fc fc' N N') (h : dc_KP fa fc N Q kf kc kF kR kN) : dc_KP fa fc' N' Q kf kc kF kR kN := by
  rcases h with h | ⟨h1, ⟨q, c, q1, q2, q3⟩, h3, h4, h5, h6, h7, h8⟩
  · exact Or.inl h
  · refine Or.inr ⟨h1, ⟨q, c, q1, Nat.lt_of_lt_of_le q2 hN.1, q3⟩, h3, h4, fun k hk => dc_KL_m hN (h5 k hk), h6, ?_, h8⟩
    intro q hq e
    obtain ⟨p, g, a1, a2, a3, a4⟩ := h7 q hq e
    exact ⟨p, g, a1, a2, Nat.lt_of_lt_of_le a3 hN.1, a4⟩
theorem dc_LN_m {fa fc fc' : Nat} {N N' : dc_N} {lf lr la lb ld lx lab bp bo : Nat → Int32} {lc pr ob : Nat} {im : Int32} (hN : dc_NE fc fc' N N') (h : dc_LN fa fc N lf lr la lb ld lx lab bp bo lc pr ob im) : dc_LN fa fc' N' lf lr la lb ld lx lab bp bo lc pr ob im :=
  ⟨fun n hn => dc_LL_m hN (h.1 n hn), h.2⟩
/-! a line more -/
theorem dc_np_c {lr lr' : Nat → Int32} {n : Nat} (h : ∀ k, k < n → lr' k = lr k) : dc_np lr' n = dc_np lr n := by
  induction n with
  | zero => rfl
  | succ n ih => rw [dc_np_s, dc_np_s, ih (fun k hk => h k (by omega)), h n (by omega)]
theorem dc_pb_c {lx lx' : Nat → Int32} {n : Nat} (h : ∀ k, k < n → lx' k = lx k) : dc_pb lx' n = dc_pb lx n := by
  cases n with
  | zero => rfl
  | succ n => exact h n (by omega)
theorem dc_d_c {ld ld' : Nat → Int32} {n : Nat} (h : ld' n = ld n) : dc_d ld' n = dc_d ld n := congrArg Int32.toNatClampNeg h
theorem dc_pd_c {ld ld' : Nat → Int32} {n : Nat} (h : ∀ k, k < n → ld' k = ld k) : dc_pd ld' n = dc_pd ld n := by
  cases n with
  | zero => rfl
  | succ n => exact dc_d_c (h n (by omega))
theorem dc_ci_c {ld ld' : Nat → Int32} {i n : Nat} (h : ∀ k, k ≤ n → ld' k = ld k) (c : dc_ci ld i n) : dc_ci ld' i n := by
  refine ⟨c.1, fun k h1 h2 => ?_⟩
  have c1 := c.1
  rw [dc_d_c (h i (by omega)), dc_d_c (h k h2)]
  exact c.2 k h1 h2
theorem dc_LL_c {fa fc : Nat} {N : dc_N} {lf lr la lb ld lx lab bp lf' lr' la' lb' ld' lx' lab' bp' : Nat → Int32} {n : Nat}
    (e1 : ∀ k, k ≤ n → lf' k = lf k) (e2 : ∀ k, k ≤ n → lr' k = lr k) (e3 : ∀ k, k ≤ n → la' k = la k) (e4 : ∀ k, k ≤ n → lb' k = lb k) (e5 : ∀ k, k ≤ n → ld' k = ld k) (e6 : ∀ k, k ≤ n → lx' k = lx k) (e7 : ∀ k, k ≤ n → lab' k = lab k) (e8 : ∀ k, k ≤ n → bp' k = bp k)
    (h : dc_LL fa fc N lf lr la lb ld lx lab bp n) : dc_LL fa fc N lf' lr' la' lb' ld' lx' lab' bp' n := by
  have hn := Nat.le_refl n
  have pb := dc_pb_c (n := n) (fun k hk => e6 k (by omega))
  have pd := dc_pd_c (n := n) (fun k hk => e5 k (by omega))
  have np := dc_np_c (n := n) (fun k hk => e2 k (by omega))
  have dd := dc_d_c (e5 n hn)
  obtain ⟨h1, h2, h3, h4⟩ := h
  unfold dc_LL
  rw [e1 n hn, e5 n hn, dd, e2 n hn, e3 n hn, e4 n hn, e6 n hn, e7 n hn, e8 n hn, pb, pd, np]
  refine ⟨h1, h2, h3, ?_⟩
  rcases h4 with g | g | ⟨g1, g2, i, hla, ci, hr⟩ | ⟨m, b, g1, hla, rb, hb, hxi, hxm, hd, hr⟩
  · exact Or.inl g
  · exact Or.inr (Or.inl g)
  · refine Or.inr (Or.inr (Or.inl ⟨g1, g2, i, (e3 n hn).trans hla, dc_ci_c e5 ci, ?_⟩))
    rw [e1 n hn, e2 n hn, e4 n hn, e1 i (Nat.le_of_lt ci.1)]
    rcases hr with hr | hr | hr | ⟨j, rb, cj, hr⟩
    · exact Or.inl hr
    · exact Or.inr (Or.inl hr)
    · exact Or.inr (Or.inr (Or.inl hr))
    · refine Or.inr (Or.inr (Or.inr ⟨j, rb, dc_ci_c e5 cj, ?_⟩))
      rw [e1 j (Nat.le_of_lt cj.1)]
      exact hr
  · refine Or.inr (Or.inr (Or.inr ⟨m, b, g1, (e3 n hn).trans hla, (e4 n hn).trans rb, hb, (e6 m (by omega)).trans hxi, ?_⟩))
    rw [e1 n hn, e2 n hn, e6 n hn, dd, dc_d_c (e5 m (by omega)), e1 m (by omega), e1 b (by omega), e8 b (by omega)]
    exact ⟨hxm, hd, hr⟩
end
section
/-! the constructors -/
theorem dc_clamp (x : Int32) (a b : Nat) (h : a ≤ b) (hb : b < 2 ^ 31) : ∃ c : Nat, a ≤ c ∧ c ≤ b ∧ ∀ A : Int32 → Prop, A (nI c) → ((nI a ≤ x → ((x ≤ nI b → A x) ∧ (¬ x ≤ nI b → A (nI b)))) ∧ (¬ nI a ≤ x → A (nI a))) := by
  by_cases h1 : nI a ≤ x
  · have h0 : ¬ x < 0 := by
      intro q
      have := Int32.lt_of_le_of_lt h1 q
      exact nI_pos (by omega) this
    obtain ⟨j, hj, rfl⟩ := nI_of h0
    rw [nI_leI (by omega) hj] at h1
    by_cases h2 : nI j ≤ nI b
    · have h3 := h2
      rw [nI_leI hj hb] at h3
      exact ⟨j, h1, h3, fun A k => br_t (nI_le h1 hj) (br_t h2 k)⟩
    · exact ⟨b, h, Nat.le_refl _, fun A k => br_t (nI_le h1 hj) (br_f h2 k)⟩
  · exact ⟨a, Nat.le_refl _, h, fun A k => br_f h1 k⟩
theorem dx_clamp {post : Int32 → Prop} {u : SX} {x lo hi : Int32} (h : ((lo ≤ x → ((x ≤ hi → post x) ∧ (¬ x ≤ hi → post hi))) ∧ (¬ lo ≤ x → post lo))) : wpX_clamp post u x lo hi := h
section
variable {fa fl fc ml mb lc pr ob : Nat} {im kf : Int32} {N : dc_N} {tr lf lr la lb ld lx lab bp bo nd pl : Nat → Int32} {Q O : dc_O}
theorem dx_init_l {post : SX → Prop} (hf : fa ≤ 4)
    (K : ∀ (kd nl nr : Nat → Int32), (∀ j, j < fa → kd j = 0 ∧ nl j = -1 ∧ nr j = -1) → (kd fa = 1 ∧ nl fa = -1 ∧ nr fa = -1) → post (dc_X fa fl (fa+1) ml mb lc pr ob (-1) (-1) ((kd, nl, nr, 32)) tr lf lr la lb ld lx lab bp bo nd Q O pl)) :
    ∀ (g i : Nat) (N : dc_N), i ≤ fa → fa - i < g → (∀ j, j < i → N.1 j = 0 ∧ N.2.1 j = -1 ∧ N.2.2.1 j = -1) → wX_init_357 post g (nI i) 7 8 0 1 2 3 4 5 6 7 8 9 32 1024 (nI fa) (nI fl) (nI fc) (nI N.2.2.2) (nI ml) (nI mb) (nI lc) (nI pr) (nI ob) im 256 (nI Q.2.2.2.2.2) kf (nI O.2.2.2.2.2) N.1 N.2.1 N.2.2.1 tr lf lr la lb ld lx lab bp bo nd Q.1 Q.2.1 Q.2.2.1 Q.2.2.2.1 Q.2.2.2.2.1 O.1 O.2.1 O.2.2.1 O.2.2.2.1 O.2.2.2.2.1 pl := by
  intro g
  induction g with
  | zero => intro i N _ h; omega
  | succ g ih =>
    intro i N hi hg h
    refine pk_le fa i (fun q => ?_) (fun q => ?_)
    · have e : i = fa := by omega
      subst e
      refine dx_set (n := i) (by omega) (nm_r (nI_1 i) ?_)
      refine K (upd N.1 i 1) (upd N.2.1 i (-1)) (upd N.2.2.1 i (-1)) ?_ ⟨pk_us, pk_us, pk_us⟩
      intro j hj
      rw [pk_un (by omega), pk_un (by omega), pk_un (by omega)]
      exact h j hj
    · refine dx_set (n := i) (by omega) (nm_r (nI_1 i) (ih (i + 1) (upd N.1 i 0, upd N.2.1 i (-1), upd N.2.2.1 i (-1), N.2.2.2) (by omega) (by omega) ?_))
      intro j hj
      by_cases e : j = i
      · subst e; exact ⟨pk_us, pk_us, pk_us⟩
      · show upd N.1 i 0 j = 0 ∧ upd N.2.1 i (-1) j = -1 ∧ upd N.2.2.1 i (-1) j = -1
        rw [pk_un e, pk_un e, pk_un e]
        exact h j (by omega)
end
theorem i_vc0 (k0 : Int32) (k1 : Int32) (k2 : Int32) (k3 : Int32) : wpX_init (fun u => wpY_init (fun v => i_Rel 4 u v) k0 k1 k2 k3) k0 k1 k2 k3 := by
  obtain ⟨fa, a1, a2, ha⟩ := dc_clamp k0 1 4 (by omega) (by omega)
  obtain ⟨fl, b1, b2, hb⟩ := dc_clamp k1 8 32 (by omega) (by omega)
  obtain ⟨ml, c1, c2, hc⟩ := dc_clamp k2 8 32 (by omega) (by omega)
  obtain ⟨mb, d1, d2, hd⟩ := dc_clamp k3 1 3 (by omega) (by omega)
  have ha' : ∀ (post : Int32 → Prop) (u : SX), post (nI fa) → wpX_clamp post u k0 1 4 := fun post u h => dx_clamp (ha post h)
  have hb' : ∀ (post : Int32 → Prop) (u : SX), post (nI fl) → wpX_clamp post u k1 8 32 := fun post u h => dx_clamp (hb post h)
  have hc' : ∀ (post : Int32 → Prop) (u : SX), post (nI ml) → wpX_clamp post u k2 8 32 := fun post u h => dx_clamp (hc post h)
  have hd' : ∀ (post : Int32 → Prop) (u : SX), post (nI mb) → wpX_clamp post u k3 1 3 := fun post u h => dx_clamp (hd post h)
  unfold wpX_init
  refine ha' _ _ ?_
  refine hb' _ _ ?_
  refine hc' _ _ ?_
  refine hd' _ _ ?_
  refine Exists.intro (fa + 1) ?_
  refine dx_init_l (fc := 0) (lc := 0) (pr := 0) (ob := 0) (Q := (fun _ => 0, fun _ => 0, fun _ => 0, fun _ => 0, fun _ => 0, 0)) (O := (fun _ => 0, fun _ => 0, fun _ => 0, fun _ => 0, fun _ => 0, 0)) a2 ?_ (fa + 1) 0 (fun _ => 0, fun _ => 0, fun _ => 0, 0) (Nat.zero_le _) (by omega) (fun j hj => absurd hj (Nat.not_lt_zero _))
  intro kd nl nr h1 h2
  unfold wpY_init
  refine ha (fun z => wY_init_128 _ k1 k2 k3 z 0 0 0 0 0 0 0 (fun _ => 0) (fun _ => 0) (fun _ => 0) (fun _ => 0) (fun _ => 0) (fun _ => 0) (fun _ => 0) (fun _ => 0) (fun _ => 0) (fun _ => 0) (fun _ => 0) (fun _ => 0) (fun _ => 0)) ?_
  unfold wY_init_128
  refine hb (fun z => wY_init_155 _ k2 k3 z (nI fa) 0 0 0 0 0 0 (fun _ => 0) (fun _ => 0) (fun _ => 0) (fun _ => 0) (fun _ => 0) (fun _ => 0) (fun _ => 0) (fun _ => 0) (fun _ => 0) (fun _ => 0) (fun _ => 0) (fun _ => 0) (fun _ => 0)) ?_
  unfold wY_init_155
  refine hc (fun z => wY_init_182 _ k3 z (nI fa) (nI fl) 0 0 0 0 0 (fun _ => 0) (fun _ => 0) (fun _ => 0) (fun _ => 0) (fun _ => 0) (fun _ => 0) (fun _ => 0) (fun _ => 0) (fun _ => 0) (fun _ => 0) (fun _ => 0) (fun _ => 0) (fun _ => 0)) ?_
  unfold wY_init_182
  refine hd (fun z => wY_init_208 _ z (nI fa) (nI fl) (nI ml) 0 0 0 0 (fun _ => 0) (fun _ => 0) (fun _ => 0) (fun _ => 0) (fun _ => 0) (fun _ => 0) (fun _ => 0) (fun _ => 0) (fun _ => 0) (fun _ => 0) (fun _ => 0) (fun _ => 0) (fun _ => 0)) ?_
  unfold wY_init_208
  refine ⟨vp_in_nI (by omega) (by omega), nm_r (congrArg (fun q => upd (fun _ => 0) q 1) (nI_clamp (by omega))) (nm_r (nI_1 fa) ?_)⟩
  refine dc_mk (fa := fa) (fl := fl) (fc := fa + 1) (ml := ml) (mb := mb) (lc := 0) (pr := 0) (ob := 0) (kc := 0) (im := -1) (kf := -1) (N := (kd, nl, nr, 32)) (Q := (fun _ => 0, fun _ => 0, fun _ => 0, fun _ => 0, fun _ => 0, 0)) (O := (fun _ => 0, fun _ => 0, fun _ => 0, fun _ => 0, fun _ => 0, 0)) ?_
  have hv : ∀ n, dc_Vn (fa + 1) (kd, nl, nr, 32) n → n ≤ fa := by
    intro n v
    rcases v with v | ⟨v1, v2⟩
    · omega
    · have v2' : n < 32 := v2
      omega
  refine ⟨⟨b2, c2, d2, by omega, by omega, by omega, by omega⟩, ⟨by omega, by omega, Nat.le_refl _, (by show 32 ≤ 1024; omega), h1, h2, fun n hn v => ?_⟩, ?_, ?_, ⟨fun n hn => absurd hn (Nat.not_lt_zero _), rfl, rfl, rfl, fun b hb => absurd hb (Nat.not_lt_zero _)⟩, Or.inl ⟨rfl, rfl⟩⟩
  · have := hv n v
    omega
  · intro n m hn hm _ hk
    exfalso
    by_cases e : n = fa
    · rw [e] at hk
      rcases hk with hk | hk <;> exact absurd (h2.1.symm.trans hk) (by decide)
    · rcases hk with hk | hk <;> exact absurd ((h1 n (by omega)).1.symm.trans hk) (by decide)
  · intro n hn
    refine ⟨?_, fun q => by omega⟩
    by_cases e : n = fa
    · rw [e, pk_us]; exact h2.1.symm
    · rw [pk_un e]; exact (h1 n (by omega)).1.symm
end
section
/-! make, part, and those that read a field -/
section
variable {fa fl fc ml mb lc pr ob kc : Nat} {im kf : Int32} {N : dc_N} {tr lf lr la lb ld lx lab bp bo nd pl : Nat → Int32} {Q O : dc_O} {yk yl yr yt yn kF kR kN : Nat → Int32}
theorem dx_make_c {post : Int32 → SX → Prop} {k x y : Int32} (hk : k = 2 ∨ k = 3) (h : wX_make_13 post k x y 7 8 0 1 2 3 4 5 6 7 8 9 32 1024 (nI fa) (nI fl) (nI fc) (nI N.2.2.2) (nI ml) (nI mb) (nI lc) (nI pr) (nI ob) im 256 (nI Q.2.2.2.2.2) kf (nI O.2.2.2.2.2) N.1 N.2.1 N.2.2.1 tr lf lr la lb ld lx lab bp bo nd Q.1 Q.2.1 Q.2.2.1 Q.2.2.2.1 Q.2.2.2.2.1 O.1 O.2.1 O.2.2.1 O.2.2.2.1 O.2.2.2.2.1 pl) : wpX_make post (dc_X fa fl fc ml mb lc pr ob im kf N tr lf lr la lb ld lx lab bp bo nd Q O pl) k x y := by
  rcases hk with rfl | rfl
  · exact br_t rfl h
  · exact br_f (by decide) (br_t rfl h)
theorem dy_make_c {post : Int32 → SY → Prop} {k x y : Int32} (hk : k = 2 ∨ k = 3) (h : wY_make_13 post k x y (nI fa) (nI fl) (nI ml) (nI mb) (nI fc) (nI lc) (nI kc) yk yl yr yt lf lr ld la lb yn kF kR kN) : wpY_make post (dc_Y fa fl ml mb fc lc kc yk yl yr yt lf lr ld la lb yn kF kR kN) k x y := by
  rcases hk with rfl | rfl
  · exact br_t rfl h
  · exact br_f (by decide) (br_t rfl h)
theorem dx_make {post : Int32 → SX → Prop} {k : Int32} {a b : Nat} (hk : k = 2 ∨ k = 3) (ha : a < fc) (hb : b < fc) (hc : fc ≤ fl) (hl : fl ≤ 32)
    (K1 : ∀ j, j < fc → N.1 j = k → N.2.1 j = nI a → N.2.2.1 j = nI b → post (nI j) (dc_X fa fl fc ml mb lc pr ob im kf N tr lf lr la lb ld lx lab bp bo nd Q O pl))
    (K2 : (∀ j, j < fc → ¬ (N.1 j = k ∧ N.2.1 j = nI a ∧ N.2.2.1 j = nI b)) → fc < fl → post (nI fc) (dc_X fa fl (fc+1) ml mb lc pr ob im kf ((upd N.1 fc k, upd N.2.1 fc (nI a), upd N.2.2.1 fc (nI b), N.2.2.2)) tr lf lr la lb ld lx lab bp bo nd Q O pl))
    (K3 : (∀ j, j < fc → ¬ (N.1 j = k ∧ N.2.1 j = nI a ∧ N.2.2.1 j = nI b)) → fl ≤ fc → post (-2) (dc_X fa fl fc ml mb lc pr ob im kf N tr lf lr la lb ld lx lab bp bo nd Q O pl)) : wpX_make post (dc_X fa fl fc ml mb lc pr ob im kf N tr lf lr la lb ld lx lab bp bo nd Q O pl) k (nI a) (nI b) := by
  refine dx_make_c hk (dx_isF_t ha (by omega) (br_f dc_10 (dx_isF_t hb (by omega) (br_f dc_10 (dx_search' (i := 0) (e := fc) (by omega) (Nat.zero_le _) (fun j _ hj k1 k2 k3 => br_f (nI_pos (by omega)) (K1 j hj k1 k2 k3)) (fun h => br_t dc_n1 ?_))))))
  have h' : ∀ j, j < fc → ¬ (N.1 j = k ∧ N.2.1 j = nI a ∧ N.2.2.1 j = nI b) := fun j hj => h j (Nat.zero_le _) hj
  refine pk_lt fc fl (fun q => dx_set (n := fc) (by omega) (nm_r (nI_1 fc) ?_)) (fun q => K3 h' q)
  rw [nI_pred]
  exact K2 h' q
theorem dy_make {post : Int32 → SY → Prop} {k : Int32} {a b : Nat} (hk : k = 2 ∨ k = 3) (ha : a < fc) (hb : b < fc) (hc : fc ≤ fl) (hl : fl ≤ 32)
    (K1 : ∀ j, j < fc → yk j = k → yl j = nI a → yr j = nI b → post (nI j) (dc_Y fa fl ml mb fc lc kc yk yl yr yt lf lr ld la lb yn kF kR kN))
    (K2 : (∀ j, j < fc → ¬ (yk j = k ∧ yl j = nI a ∧ yr j = nI b)) → fc < fl → post (nI fc) (dc_Y fa fl ml mb (fc+1) lc kc (upd yk fc k) (upd yl fc (nI a)) (upd yr fc (nI b)) yt lf lr ld la lb yn kF kR kN))
    (K3 : (∀ j, j < fc → ¬ (yk j = k ∧ yl j = nI a ∧ yr j = nI b)) → fl ≤ fc → post (-2) (dc_Y fa fl ml mb fc lc kc yk yl yr yt lf lr ld la lb yn kF kR kN)) : wpY_make post (dc_Y fa fl ml mb fc lc kc yk yl yr yt lf lr ld la lb yn kF kR kN) k (nI a) (nI b) := by
  have main : ∀ g i, i ≤ fc → fc - i < g → (∀ j, j < i → ¬ (yk j = k ∧ yl j = nI a ∧ yr j = nI b)) → wY_make_35 post k (nI a) (nI b) (nI fa) (nI fl) (nI ml) (nI mb) (nI fc) (nI lc) (nI kc) yk yl yr yt lf lr ld la lb yn kF kR kN g (nI i) := by
    intro g
    induction g with
    | zero => intro i _ h; omega
    | succ g ih =>
      intro i hi hg h
      refine pk_le fc i (fun q => ?_) (fun q => ?_)
      · have e : i = fc := by omega
        subst e
        refine pk_lt i fl (fun q => ?_) (fun q => K3 h q)
        have hv : vp_in (nI i) 32 := vp_in_nI (by omega) (by omega)
        have ei : (nI i).toNatClampNeg = i := nI_clamp (by omega)
        refine ⟨hv, nm_r (congrArg (fun q => upd yk q k) ei) ⟨hv, nm_r (congrArg (fun q => upd yl q (nI a)) ei) ⟨hv, nm_r (congrArg (fun q => upd yr q (nI b)) ei) (nm_r (nI_1 i) ?_)⟩⟩⟩
        rw [nI_pred]
        exact K2 h q
      · have hv : vp_in (nI i) 32 := vp_in_nI (by omega) (by omega)
        have ei : (nI i).toNatClampNeg = i := nI_clamp (by omega)
        have nx : ¬ (yk i = k ∧ yl i = nI a ∧ yr i = nI b) → ∀ x, x = nI i + 1 → wY_make_35 post k (nI a) (nI b) (nI fa) (nI fl) (nI ml) (nI mb) (nI fc) (nI lc) (nI kc) yk yl yr yt lf lr ld la lb yn kF kR kN g x := by
          intro hn
          refine nm_r (nI_1 i) (ih (i + 1) q (by omega) (fun j hj => ?_))
          by_cases e : j = i
          · subst e; exact hn
          · exact h j (by omega)
        refine ⟨hv, ?_⟩
        rw [ei]
        exact br_c (fun e1 => ⟨hv, br_c (fun e2 => ⟨hv, br_c (fun e3 => K1 i q e1 e2 e3) (fun e3 => nx (fun z => e3 z.2.2))⟩) (fun e2 => nx (fun z => e2 z.2.1))⟩) (fun e1 => nx (fun z => e1 z.1))
  exact dy_make_c hk (dy_noF_t ha (by omega) (br_t rfl (dy_noF_t hb (by omega) (br_t rfl (Exists.intro (fc + 1) (main (fc + 1) 0 (Nat.zero_le _) (by omega) (fun j hj => absurd hj (Nat.not_lt_zero _))))))))
/-- the relation with one formula more -/
theorem dc_G_make {k : Int32} {a b : Nat} (hk : k = 2 ∨ k = 3) (ha : a < fc) (hb : b < fc) (hf : fc < fl) (hno : ∀ j, j < fc → ¬ (N.1 j = k ∧ N.2.1 j = nI a ∧ N.2.2.1 j = nI b))
    (g : dc_G fa fl fc ml mb lc pr ob im kf N lf lr la lb ld lx lab bp bo Q kc yk yl yr kF kR kN) :
    dc_G fa fl (fc + 1) ml mb lc pr ob im kf (upd N.1 fc k, upd N.2.1 fc (nI a), upd N.2.2.1 fc (nI b), N.2.2.2) lf lr la lb ld lx lab bp bo Q kc (upd yk fc k) (upd yl fc (nI a)) (upd yr fc (nI b)) kF kR kN := by
  obtain ⟨⟨f1, f2, f3, f4, f5, f6, f7⟩, ⟨w1, w2, w3, w4, w5, w6, w7⟩, hU, hY, hL, hK⟩ := g
  have hne : dc_NE fc (fc + 1) N (upd N.1 fc k, upd N.2.1 fc (nI a), upd N.2.2.1 fc (nI b), N.2.2.2) := by
    refine ⟨Nat.le_succ _, Nat.le_refl _, fun n v => ?_⟩
    have hn : n ≠ fc := by rcases v with v | v <;> omega
    exact ⟨pk_un hn, pk_un hn, pk_un hn⟩
  have hvi : ∀ n, dc_Vn (fc + 1) (upd N.1 fc k, upd N.2.1 fc (nI a), upd N.2.2.1 fc (nI b), N.2.2.2) n → n = fc ∨ dc_Vn fc N n := by
    intro n v
    rcases v with v | v
    · by_cases e : n = fc
      · exact Or.inl e
      · exact Or.inr (Or.inl (by omega))
    · exact Or.inr (Or.inr v)
  refine ⟨⟨f1, f2, f3, by omega, f5, f6, f7⟩, ⟨by omega, by omega, w3, w4, ?_, ?_, ?_⟩, ?_, ?_, dc_LN_m hne hL, dc_KP_m hne hK⟩
  · intro n hn
    obtain ⟨x, y, z⟩ := hne.2.2 n (Or.inl (by omega))
    obtain ⟨x', y', z'⟩ := w5 n hn
    exact ⟨x.trans x', y.trans y', z.trans z'⟩
  · obtain ⟨x, y, z⟩ := hne.2.2 fa (Or.inl w1)
    exact ⟨x.trans w6.1, y.trans w6.2.1, z.trans w6.2.2⟩
  · intro n hn v
    rcases hvi n v with e | v'
    · subst e
      refine ⟨?_, a, b, pk_us, pk_us, ha, hb, Or.inl (by omega), Or.inl (by omega)⟩
      rw [show (upd N.1 n k, upd N.2.1 n (nI a), upd N.2.2.1 n (nI b), N.2.2.2).1 n = k from pk_us]
      exact hk
    · obtain ⟨x, y, z⟩ := hne.2.2 n v'
      obtain ⟨q, l, r, el, er, ll, lr, vl, vr⟩ := w7 n hn v'
      refine ⟨?_, l, r, y.trans el, z.trans er, ll, lr, dc_Vn_m hne vl, dc_Vn_m hne vr⟩
      rw [x]; exact q
  · intro n m hn hm e1 e2 e3 e4
    by_cases z1 : n = fc
    · by_cases z2 : m = fc
      · omega
      · exfalso
        obtain ⟨x, y, z⟩ := hne.2.2 m (Or.inl (by omega))
        subst z1
        exact hno m (by omega) ⟨x.symm.trans (e1.symm.trans pk_us), y.symm.trans (e3.symm.trans pk_us), z.symm.trans (e4.symm.trans pk_us)⟩
    · obtain ⟨x, y, z⟩ := hne.2.2 n (Or.inl (by omega))
      by_cases z2 : m = fc
      · exfalso
        subst z2
        exact hno n (by omega) ⟨x.symm.trans (e1.trans pk_us), y.symm.trans (e3.trans pk_us), z.symm.trans (e4.trans pk_us)⟩
      · obtain ⟨x', y', z'⟩ := hne.2.2 m (Or.inl (by omega))
        rw [x] at e2
        exact hU n m (by omega) (by omega) (x.symm.trans (e1.trans x')) e2 (y.symm.trans (e3.trans y')) (z.symm.trans (e4.trans z'))
  · intro n hn
    by_cases e : n = fc
    · subst e
      exact ⟨pk_us.trans pk_us.symm, fun _ => ⟨pk_us.trans pk_us.symm, pk_us.trans pk_us.symm⟩⟩
    · obtain ⟨q1, q2⟩ := hY n (by omega)
      refine ⟨(pk_un e).trans (q1.trans (pk_un e).symm), fun h => ?_⟩
      obtain ⟨q3, q4⟩ := q2 h
      exact ⟨(pk_un e).trans (q3.trans (pk_un e).symm), (pk_un e).trans (q4.trans (pk_un e).symm)⟩
/-- the two tables hold the same wholes -/
theorem dc_PY_k {k : Int32} {j : Nat} {x y : Int32} (hk : k = 2 ∨ k = 3) (hW : dc_NW fa fc N) (hY : dc_PY fa fc N yk yl yr) (hj : j < fc) : (yk j = k ∧ yl j = x ∧ yr j = y) ↔ (N.1 j = k ∧ N.2.1 j = x ∧ N.2.2.1 j = y) := by
  obtain ⟨q1, q2⟩ := hY j hj
  by_cases h : fa < j
  · obtain ⟨q3, q4⟩ := q2 h
    rw [q1, q3, q4]
  · have hz : ¬ N.1 j = k := by
      intro e
      by_cases z : j = fa
      · subst z
        have := hW.2.2.2.2.2.1.1.symm.trans e
        rcases hk with rfl | rfl <;> exact absurd this (by decide)
      · have := (hW.2.2.2.2.1 j (by omega)).1.symm.trans e
        rcases hk with rfl | rfl <;> exact absurd this (by decide)
    constructor
    · intro z; exact absurd (q1.symm.trans z.1) hz
    · intro z; exact absurd z.1 hz
end
theorem i_vc_make {k : Nat} {u : SX} {v : SY} (I : i_Rel k u v) (hk : k + 5 ≤ 2564) (v1 : Int32) (v2 : Int32) (v3 : Int32) : wpX_make (fun r u' => wpY_make (fun r' v' => r' = r ∧ i_Rel (k + 5) u' v') v v1 v2 v3) u v1 v2 v3 := by
  refine dc_el (P := fun u v => wpX_make (fun r u' => wpY_make (fun r' v' => r' = r ∧ i_Rel (k + 5) u' v') v v1 v2 v3) u v1 v2 v3) I ?_
  intro fa fl fc ml mb lc pr ob kc im kf N tr lf lr la lb ld lx lab bp bo nd Q O pl yk yl yr yt yn kF kR kN g
  have g' := g
  obtain ⟨⟨f1, f2, f3, f4, f5, f6, f7⟩, hW, hU, hY, hL, hK⟩ := g'
  by_cases h2 : v1 = 2 ∨ v1 = 3
  · rcases pk_ix v2 (n := fc) (by omega) with q | q | ⟨a, ha, rfl⟩
    · exact dx_make_c h2 (dx_isF_f (Or.inl q) (br_t rfl (dy_make_c h2 (dy_noF_f (Or.inl q) (br_f dc_10 ⟨rfl, dc_mk g⟩)))))
    · exact dx_make_c h2 (dx_isF_f (Or.inr q) (br_t rfl (dy_make_c h2 (dy_noF_f (Or.inr q) (br_f dc_10 ⟨rfl, dc_mk g⟩)))))
    · rcases pk_ix v3 (n := fc) (by omega) with q | q | ⟨b, hb, rfl⟩
      · exact dx_make_c h2 (dx_isF_t ha (by omega) (br_f dc_10 (dx_isF_f (Or.inl q) (br_t rfl (dy_make_c h2 (dy_noF_t ha (by omega) (br_t rfl (dy_noF_f (Or.inl q) (br_f dc_10 ⟨rfl, dc_mk g⟩)))))))))
      · exact dx_make_c h2 (dx_isF_t ha (by omega) (br_f dc_10 (dx_isF_f (Or.inr q) (br_t rfl (dy_make_c h2 (dy_noF_t ha (by omega) (br_t rfl (dy_noF_f (Or.inr q) (br_f dc_10 ⟨rfl, dc_mk g⟩)))))))))
      · have hk2 : ∀ {j}, v1 = N.1 j → N.1 j = 2 ∨ N.1 j = 3 := by
          intro j e; rw [← e]; exact h2
        refine dx_make h2 ha hb f4 f1 (fun j hj e1 e2 e3 => ?_) (fun hno hf => ?_) (fun hno hf => ?_)
        · refine dy_make h2 ha hb f4 f1 (fun i hi d1 d2 d3 => ?_) (fun hno hf => ?_) (fun hno hf => ?_)
          · obtain ⟨d1, d2, d3⟩ := (dc_PY_k h2 hW hY hi).mp ⟨d1, d2, d3⟩
            exact ⟨congrArg nI (hU i j hi hj (d1.trans e1.symm) (hk2 d1.symm) (d2.trans e2.symm) (d3.trans e3.symm)), dc_mk g⟩
          · exact absurd ((dc_PY_k h2 hW hY hj).mpr ⟨e1, e2, e3⟩) (hno j hj)
          · exact absurd ((dc_PY_k h2 hW hY hj).mpr ⟨e1, e2, e3⟩) (hno j hj)
        · refine dy_make h2 ha hb f4 f1 (fun i hi d1 d2 d3 => ?_) (fun hno' hf => ?_) (fun hno' hf => by omega)
          · exact absurd ((dc_PY_k h2 hW hY hi).mp ⟨d1, d2, d3⟩) (hno i hi)
          · exact ⟨rfl, dc_mk (dc_G_make h2 ha hb hf hno g)⟩
        · refine dy_make h2 ha hb f4 f1 (fun i hi d1 d2 d3 => ?_) (fun hno' hf => by omega) (fun hno' hf => ⟨rfl, dc_mk g⟩)
          exact absurd ((dc_PY_k h2 hW hY hi).mp ⟨d1, d2, d3⟩) (hno i hi)
  · have n2 : ¬ v1 = 2 := fun e => h2 (Or.inl e)
    have n3 : ¬ v1 = 3 := fun e => h2 (Or.inr e)
    exact br_f n2 (br_f n3 (br_f n2 (br_f n3 ⟨rfl, dc_mk g⟩)))
theorem i_vc_part {k : Nat} {u : SX} {v : SY} (I : i_Rel k u v) (hk : k + 5 ≤ 2564) (v1 : Int32) (v2 : Int32) : wpX_part (fun r => wpY_part (fun r' => r' = r ∧ i_Rel (k + 5) u v) v v1 v2) u v1 v2 := by
  refine dc_el (P := fun u v => wpX_part (fun r => wpY_part (fun r' => r' = r ∧ i_Rel (k + 5) u v) v v1 v2) u v1 v2) I ?_
  intro fa fl fc ml mb lc pr ob kc im kf N tr lf lr la lb ld lx lab bp bo nd Q O pl yk yl yr yt yn kF kR kN g
  have g' := g
  obtain ⟨⟨f1, f2, f3, f4, f5, f6, f7⟩, hW, hU, hY, hL, hK⟩ := g'
  rcases pk_ix v1 (n := fc) (by omega) with q | q | ⟨j, hj, rfl⟩
  · unfold wpX_part
    refine dx_isF_f (Or.inl q) ?_
    refine br_t rfl ?_
    unfold wpY_part
    refine dy_noF_f (Or.inl q) ?_
    exact br_f dc_10 ⟨rfl, dc_mk g⟩
  · unfold wpX_part
    refine dx_isF_f (Or.inr q) ?_
    refine br_t rfl ?_
    unfold wpY_part
    refine dy_noF_f (Or.inr q) ?_
    exact br_f dc_10 ⟨rfl, dc_mk g⟩
  · have hv : vp_in (nI j) 1024 := vp_in_nI (by omega) (by omega)
    have hv' : vp_in (nI j) 32 := vp_in_nI (by omega) (by omega)
    have ej : (nI j).toNatClampNeg = j := nI_clamp (by omega)
    obtain ⟨q1, q2⟩ := hY j hj
    have hc : fc ≤ 32 := by omega
    -- the kinds
    have kinds : (N.1 j = 0 ∧ N.2.1 j = -1 ∧ N.2.2.1 j = -1) ∨ (N.1 j = 1 ∧ N.2.1 j = -1 ∧ N.2.2.1 j = -1) ∨ (¬ N.1 j = 0 ∧ ¬ N.1 j = 1 ∧ yl j = N.2.1 j ∧ yr j = N.2.2.1 j) := by
      rcases Nat.lt_trichotomy j fa with z | z | z
      · exact Or.inl (hW.2.2.2.2.1 j z)
      · subst z; exact Or.inr (Or.inl hW.2.2.2.2.2.1)
      · obtain ⟨w, _⟩ := hW.2.2.2.2.2.2 j z (Or.inl hj)
        refine Or.inr (Or.inr ⟨?_, ?_, q2 z⟩) <;> rcases w with w | w <;> rw [w] <;> decide
    unfold wpX_part
    refine dx_isF_t hj hc ?_
    unfold wpY_part
    refine (br_f dc_10 (br_c (fun h0 => ?_) (fun h0 => br_c (fun h2 => br_c (fun e0 => ⟨hv, ?_⟩) (fun e0 => br_c (fun e1 => ⟨hv, ?_⟩) (fun e1 => ⟨hv, ?_⟩))) (fun h2 => ?_))))
    · refine dy_noF_t hj hc ?_
      exact (br_t rfl (br_t h0 ⟨rfl, dc_mk g⟩))
    · refine dy_noF_t hj hc ?_
      refine (br_t rfl (br_f h0 (br_t h2 (br_t e0 ⟨hv', ?_, dc_mk g⟩))))
      rw [ej]; exact q1
    · rw [ej]
      refine dy_noF_t hj hc ?_
      refine (br_t rfl (br_f h0 (br_t h2 (br_f e0 ⟨hv', ?_⟩))))
      rw [q1]
      rcases kinds with ⟨a, b, c⟩ | ⟨a, b, c⟩ | ⟨a, b, c, d⟩
      · exact br_t a ⟨b.symm, dc_mk g⟩
      · exact br_f (by rw [a]; decide) ⟨hv', br_t a ⟨b.symm, dc_mk g⟩⟩
      · exact br_f a ⟨hv', br_f b (br_t e1 ⟨hv', c, dc_mk g⟩)⟩
    · rw [ej]
      refine dy_noF_t hj hc ?_
      refine (br_t rfl (br_f h0 (br_t h2 (br_f e0 ⟨hv', ?_⟩))))
      rw [q1]
      rcases kinds with ⟨a, b, c⟩ | ⟨a, b, c⟩ | ⟨a, b, c, d⟩
      · exact br_t a ⟨c.symm, dc_mk g⟩
      · exact br_f (by rw [a]; decide) ⟨hv', br_t a ⟨c.symm, dc_mk g⟩⟩
      · exact br_f a ⟨hv', br_f b (br_f e1 ⟨hv', d, dc_mk g⟩)⟩
    · refine dy_noF_t hj hc ?_
      exact (br_t rfl (br_f h0 (br_f h2 ⟨rfl, dc_mk g⟩)))
theorem i_vc_lineFormula {k : Nat} {u : SX} {v : SY} (I : i_Rel k u v) (hk : k + 5 ≤ 2564) (v1 : Int32) : wpX_lineFormula (fun r => wpY_lineFormula (fun r' => r' = r ∧ i_Rel (k + 5) u v) v v1) u v1 := by
  refine dc_el (P := fun u v => wpX_lineFormula (fun r => wpY_lineFormula (fun r' => r' = r ∧ i_Rel (k + 5) u v) v v1) u v1) I ?_
  intro fa fl fc ml mb lc pr ob kc im kf N tr lf lr la lb ld lx lab bp bo nd Q O pl yk yl yr yt yn kF kR kN g
  have g' := g
  obtain ⟨⟨f1, f2, f3, f4, f5, f6, f7⟩, _⟩ := g'
  by_cases h0 : v1 < 0
  · exact br_t h0 (br_t rfl (br_t h0 ⟨rfl, dc_mk g⟩))
  · rcases pk_ix v1 (n := lc) (by omega) with q | q | ⟨j, hj, rfl⟩
    · exact absurd q h0
    · exact br_f h0 (br_t q (br_t rfl (br_f h0 (br_f (Int32.not_lt.mpr q) ⟨rfl, dc_mk g⟩))))
    · have hv : vp_in (nI j) 32 := vp_in_nI (by omega) (by omega)
      exact br_f h0 (br_f (nI_ge hj (by omega)) (br_f dc_10 ⟨hv, br_f h0 (br_t (nI_lt hj (by omega)) ⟨hv, rfl, dc_mk g⟩)⟩))
theorem i_vc_depth {k : Nat} {u : SX} {v : SY} (I : i_Rel k u v) (hk : k + 5 ≤ 2564) : wpX_depth (fun r => wpY_depth (fun r' => r' = r ∧ i_Rel (k + 5) u v) v) u := by
  refine dc_el (P := fun u v => wpX_depth (fun r => wpY_depth (fun r' => r' = r ∧ i_Rel (k + 5) u v) v) u) I ?_
  intro fa fl fc ml mb lc pr ob kc im kf N tr lf lr la lb ld lx lab bp bo nd Q O pl yk yl yr yt yn kF kR kN g
  have g' := g
  obtain ⟨⟨f1, f2, f3, f4, f5, f6, f7⟩, hW, hU, hY, hL, hK⟩ := g'
  have ho := hL.2.2.1
  refine pk_eq lc 0 (fun e => ⟨?_, dc_mk g⟩) (fun e => ⟨?_, ?_, dc_mk g⟩)
  · rw [ho, e]; rfl
  · rw [dc_s1 (by omega)]; exact vp_in_nI (by omega) (by omega)
  · rw [dc_s1 (by omega), nI_clamp (by omega)]
    have h1 := (hL.1 (lc - 1) (by omega)).2.1
    rw [h1, ho]
    obtain ⟨m, rfl⟩ : ∃ m, lc = m + 1 := ⟨lc - 1, by omega⟩
    rfl
theorem i_vc_clear {k : Nat} {u : SX} {v : SY} (I : i_Rel k u v) (hk : k + 5 ≤ 2564) : wpX_clear (fun u' => wpY_clear (fun v' => i_Rel (k + 5) u' v') v) u := by
  refine dc_el (P := fun u v => wpX_clear (fun u' => wpY_clear (fun v' => i_Rel (k + 5) u' v') v) u) I ?_
  intro fa fl fc ml mb lc pr ob kc im kf N tr lf lr la lb ld lx lab bp bo nd Q O pl yk yl yr yt yn kF kR kN g
  obtain ⟨⟨f1, f2, f3, f4, f5, f6, f7⟩, hW, hU, hY, hL, hK⟩ := g
  have g2 : dc_G fa fl fc ml mb 0 0 0 (-1) kf N lf lr la lb ld lx lab bp bo Q kc yk yl yr kF kR kN :=
    ⟨⟨f1, f2, f3, f4, Nat.zero_le _, Nat.zero_le _, Nat.zero_le _⟩, hW, hU, hY, ⟨fun n hn => absurd hn (Nat.not_lt_zero _), rfl, rfl, rfl, fun b hb => absurd hb (Nat.not_lt_zero _)⟩, hK⟩
  exact dc_mk (k := k + 5) g2
theorem i_vc_conclusion {k : Nat} {u : SX} {v : SY} (I : i_Rel k u v) (hk : k + 5 ≤ 2564) : wpX_conclusion (fun r => wpY_conclusion (fun r' => r' = r ∧ i_Rel (k + 5) u v) v) u := by
  refine dc_el (P := fun u v => wpX_conclusion (fun r => wpY_conclusion (fun r' => r' = r ∧ i_Rel (k + 5) u v) v) u) I ?_
  intro fa fl fc ml mb lc pr ob kc im kf N tr lf lr la lb ld lx lab bp bo nd Q O pl yk yl yr yt yn kF kR kN g
  have g' := g
  obtain ⟨_, hW, hU, hY, hL, hK⟩ := g'
  rcases hK with ⟨a, b⟩ | ⟨a, ⟨q, c, q1, q2, q3, q4⟩, _⟩
  · refine pk_eq kc 0 (fun e => ⟨b.symm, dc_mk g⟩) (fun e => absurd a e)
  · refine pk_eq kc 0 (fun e => by omega) (fun e => ⟨?_, ?_, dc_mk g⟩)
    · rw [dc_s1 (by omega)]; exact vp_in_nI (by omega) (by omega)
    · rw [dc_s1 (by omega), nI_clamp (by omega), show kc - 1 = q by omega, q4]; exact q3.symm
end
section
/-! a line is written -/
section
variable {fa fl fc ml mb lc pr ob kc : Nat} {im kf : Int32} {N : dc_N} {tr lf lr la lb ld lx lab bp bo nd pl : Nat → Int32} {Q O : dc_O} {yk yl yr yt yn kF kR kN : Nat → Int32}
theorem dx_write {post : Int32 → SX → Prop} {r f i j : Int32} (h : lc < 32) (K : post (nI lc) (dc_X fa fl fc ml mb (lc+1) pr ob im kf N tr (upd lf lc f) (upd lr lc r) (upd la lc i) (upd lb lc j) (upd ld lc (nI ob)) (upd lx lc im) lab bp bo nd Q O pl)) : wpX_write post (dc_X fa fl fc ml mb lc pr ob im kf N tr lf lr la lb ld lx lab bp bo nd Q O pl) r f i j := by
  have hv : vp_in (nI lc) 32 := vp_in_nI h (by omega)
  have e : (nI lc).toNatClampNeg = lc := nI_clamp (by omega)
  exact ⟨hv, nm_r (congrArg (fun q => upd lr q r) e) ⟨hv, nm_r (congrArg (fun q => upd lf q f) e) ⟨hv, nm_r (congrArg (fun q => upd la q i) e) ⟨hv, nm_r (congrArg (fun q => upd lb q j) e) ⟨hv, nm_r (congrArg (fun q => upd ld q (nI ob)) e) ⟨hv, nm_r (congrArg (fun q => upd lx q im) e) (nm_r (nI_1 lc) K)⟩⟩⟩⟩⟩⟩
theorem dy_write {post : Int32 → SY → Prop} {r f i j d : Int32} (h : lc < 32) (K : post (nI lc) (dc_Y fa fl ml mb fc (lc+1) kc yk yl yr yt (upd lf lc f) (upd lr lc r) (upd ld lc d) (upd la lc i) (upd lb lc j) yn kF kR kN)) : wpY_write post (dc_Y fa fl ml mb fc lc kc yk yl yr yt lf lr ld la lb yn kF kR kN) f r i j d := by
  have hv : vp_in (nI lc) 32 := vp_in_nI h (by omega)
  have e : (nI lc).toNatClampNeg = lc := nI_clamp (by omega)
  refine ⟨hv, nm_r (congrArg (fun q => upd lf q f) e) ⟨hv, nm_r (congrArg (fun q => upd lr q r) e) ⟨hv, nm_r (congrArg (fun q => upd ld q d) e) ⟨hv, nm_r (congrArg (fun q => upd la q i) e) ⟨hv, nm_r (congrArg (fun q => upd lb q j) e) (nm_r (nI_1 lc) ?_)⟩⟩⟩⟩⟩
  rw [nI_pred]
  exact K
theorem dy_depth {post : Int32 → Prop} (hl : lc ≤ 32) (h : ∀ n, n < lc → ld n = nI (dc_d ld n)) (K : post (nI (dc_pd ld lc))) : wpY_depth post (dc_Y fa fl ml mb fc lc kc yk yl yr yt lf lr ld la lb yn kF kR kN) := by
  refine pk_eq lc 0 (fun e => ?_) (fun e => ?_)
  · subst e; exact K
  · obtain ⟨m, rfl⟩ : ∃ m, lc = m + 1 := ⟨lc - 1, by omega⟩
    rw [nI_pred]
    refine ⟨vp_in_nI (by omega) (by omega), ?_⟩
    rw [nI_clamp (by omega), h m (by omega)]
    exact K
theorem dc_d_n {d : Nat} (hd : d < 2 ^ 31) : dc_d (upd ld lc (nI d)) lc = d := by
  unfold dc_d
  rw [pk_us, nI_clamp hd]
theorem dc_d_o {x : Int32} {k : Nat} (h : k ≠ lc) : dc_d (upd ld lc x) k = dc_d ld k := dc_d_c (pk_un h)
theorem dc_CI_s {d b : Nat} (hd : d < 2 ^ 31) (hb : b < lc) : dc_CI (upd ld lc (nI d)) (lc + 1) b ↔ (dc_CI ld lc b ∧ dc_d ld b ≤ d) := by
  constructor
  · intro h
    refine ⟨fun k h1 h2 => ?_, ?_⟩
    · have := h k h1 (by omega)
      rw [dc_d_o (by omega), dc_d_o (by omega)] at this
      exact this
    · have := h lc hb (by omega)
      rw [dc_d_n hd, dc_d_o (by omega)] at this
      exact this
  · rintro ⟨h1, h2⟩ k h3 h4
    rw [dc_d_o (by omega)]
    by_cases e : k = lc
    · subst e; rw [dc_d_n hd]; exact h2
    · rw [dc_d_o e]; exact h1 k h3 (by omega)
theorem dc_CI_ob {b : Nat} (hb : b < lc) (h : dc_CI ld lc b) : dc_d ld b ≤ dc_pd ld lc := by
  obtain ⟨m, rfl⟩ : ∃ m, lc = m + 1 := ⟨lc - 1, by omega⟩
  show dc_d ld b ≤ dc_d ld m
  by_cases e : b = m
  · subst e; exact Nat.le_refl _
  · exact h m (by omega) (by omega)
theorem dc_ci_n {d i : Nat} (hd : d < 2 ^ 31) (hi : i < lc) (h : dc_CI ld lc i) (h2 : dc_d ld i ≤ d) : dc_ci (upd ld lc (nI d)) i lc := by
  refine ⟨hi, fun k h3 h4 => ?_⟩
  exact (dc_CI_s hd hi).mpr ⟨h, h2⟩ k h3 (by omega)
/-- the new line's own facts, in terms of the old arrays -/
def dc_NL (fa fc : Nat) (N : dc_N) (lf lr ld lx lab' bp bp' : Nat → Int32) (lc : Nat) (f r a b : Int32) (d : Nat) (x : Int32) : Prop :=
  (r = 7 ∧ a = -1 ∧ b = -1 ∧ dc_pb lx lc = -1 ∧ x = -1 ∧ d = 0 ∧ lab' lc = nI (dc_np lr lc) ∧ dc_np lr lc < 8) ∨
  (r = 8 ∧ a = -1 ∧ b = -1 ∧ x = nI lc ∧ bp' lc = dc_pb lx lc ∧ d = dc_pd ld lc + 1) ∨
  (x = dc_pb lx lc ∧ d = dc_pd ld lc ∧ ∃ i : Nat, a = nI i ∧ i < lc ∧ dc_CI ld lc i ∧
    ((r = 0 ∧ b = -1 ∧ lf i = f) ∨ (r = 3 ∧ b = -1 ∧ ∃ q, dc_J fc N 3 (lf i) f q) ∨ (r = 4 ∧ b = -1 ∧ ∃ q, dc_J fc N 3 (lf i) q f) ∨
     (∃ j : Nat, b = nI j ∧ j < lc ∧ dc_CI ld lc j ∧ ((r = 1 ∧ dc_J fc N 2 (lf i) (lf j) f) ∨ (r = 2 ∧ dc_J fc N 3 f (lf i) (lf j)))))) ∨
  (∃ m c : Nat, lc = m + 1 ∧ a = nI m ∧ b = -1 ∧ c ≤ m ∧ lx m = nI c ∧ x = bp c ∧ d + 1 = dc_d ld m ∧
    ((r = 5 ∧ dc_J fc N 2 f (lf c) (lf m)) ∨ (r = 6 ∧ lf m = nI fa ∧ dc_J fc N 2 (lf c) f (nI fa))))
theorem dc_LL_n {f r a b x : Int32} {d : Nat} {lab' bp' : Nat → Int32} (e8 : ∀ k, k < lc → bp' k = bp k) (hf : ∃ q : Nat, f = nI q ∧ q < fc) (hd : d ≤ 3) (h : dc_NL fa fc N lf lr ld lx lab' bp bp' lc f r a b d x) :
    dc_LL fa fc N (upd lf lc f) (upd lr lc r) (upd la lc a) (upd lb lc b) (upd ld lc (nI d)) (upd lx lc x) lab' bp' lc := by
  have pb := dc_pb_c (lx := lx) (lx' := upd lx lc x) (n := lc) (fun k hk => pk_un (by omega))
  have pd := dc_pd_c (ld := ld) (ld' := upd ld lc (nI d)) (n := lc) (fun k hk => pk_un (by omega))
  have np := dc_np_c (lr := lr) (lr' := upd lr lc r) (n := lc) (fun k hk => pk_un (by omega))
  have dd := dc_d_n (ld := ld) (lc := lc) (d := d) (by omega)
  unfold dc_LL
  rw [pb, pd, np, dd, pk_us, pk_us, pk_us, pk_us, pk_us, pk_us]
  refine ⟨hf, rfl, hd, ?_⟩
  rcases h with h | h | ⟨h1, h2, i, ha, hi, hc, hr⟩ | ⟨m, c, h1, ha, hb, h4, h5, h6, h7, hr⟩
  · exact Or.inl h
  · exact Or.inr (Or.inl h)
  · have hob := dc_CI_ob hi hc
    refine Or.inr (Or.inr (Or.inl ⟨h1, h2, i, pk_us.trans ha, dc_ci_n (by omega) hi hc (by omega), ?_⟩))
    rw [pk_us, pk_us, pk_us, pk_un (by omega)]
    rcases hr with hr | hr | hr | ⟨j, hb, hj, hcj, hr⟩
    · exact Or.inl hr
    · exact Or.inr (Or.inl hr)
    · exact Or.inr (Or.inr (Or.inl hr))
    · have hobj := dc_CI_ob hj hcj
      refine Or.inr (Or.inr (Or.inr ⟨j, hb, dc_ci_n (by omega) hj hcj (by omega), ?_⟩))
      rw [pk_un (by omega)]
      exact hr
  · refine Or.inr (Or.inr (Or.inr ⟨m, c, h1, pk_us.trans ha, pk_us.trans hb, h4, (pk_un (by omega)).trans h5, ?_⟩))
    rw [pk_us, pk_us, pk_us, dd, dc_d_o (by omega), pk_un (by omega), pk_un (by omega), e8 c (by omega)]
    exact ⟨h6, h7, hr⟩
theorem dc_LN_app {f r a b x : Int32} {d : Nat} {lab' bp' bo' : Nat → Int32} {pr' : Nat} (e7 : ∀ k, k < lc → lab' k = lab k) (e8 : ∀ k, k < lc → bp' k = bp k) (hf : ∃ q : Nat, f = nI q ∧ q < fc) (hd : d ≤ 3) (h : dc_LN fa fc N lf lr la lb ld lx lab bp bo lc pr ob im) (hn : dc_NL fa fc N lf lr ld lx lab' bp bp' lc f r a b d x) (hpr : pr' = pr + (if r = 7 then 1 else 0))
    (hbo : ∀ b, b < lc → lr b = 8 → (¬ bo' b = 0 ↔ dc_CI (upd ld lc (nI d)) (lc + 1) b)) (hb8 : r = 8 → ¬ bo' lc = 0) :
    dc_LN fa fc N (upd lf lc f) (upd lr lc r) (upd la lc a) (upd lb lc b) (upd ld lc (nI d)) (upd lx lc x) lab' bp' bo' (lc + 1) pr' d x := by
  obtain ⟨h1, h2, h3, h4, h5⟩ := h
  refine ⟨?_, pk_us.symm, (dc_d_n (by omega)).symm, ?_, ?_⟩
  · intro n hn'
    by_cases e : n = lc
    · subst e; exact dc_LL_n e8 hf hd hn
    · have hlt : n < lc := by omega
      exact dc_LL_c (fun k hk => pk_un (by omega)) (fun k hk => pk_un (by omega)) (fun k hk => pk_un (by omega)) (fun k hk => pk_un (by omega)) (fun k hk => pk_un (by omega)) (fun k hk => pk_un (by omega)) (fun k hk => e7 k (by omega)) (fun k hk => e8 k (by omega)) (h1 n hlt)
  · rw [dc_np_s, pk_us, dc_np_c (lr := lr) (fun k hk => pk_un (by omega)), ← h4]
    exact hpr
  · intro b hb h8
    by_cases e : b = lc
    · subst e
      rw [pk_us] at h8
      exact ⟨fun _ k k1 k2 => by omega, fun _ => hb8 h8⟩
    · rw [pk_un e] at h8
      exact hbo b (by omega) h8
/-- the line is not less deep than the last one: no box is shut -/
theorem dc_bo_keep {d : Nat} (hd : d ≤ 3) (h : dc_LN fa fc N lf lr la lb ld lx lab bp bo lc pr ob im) (hge : ob ≤ d) : ∀ b, b < lc → lr b = 8 → (¬ bo b = 0 ↔ dc_CI (upd ld lc (nI d)) (lc + 1) b) := by
  intro b hb h8
  rw [h.2.2.2.2 b hb h8, dc_CI_s (by omega) hb]
  refine ⟨fun q => ⟨q, ?_⟩, fun q => q.1⟩
  have := dc_CI_ob hb q
  have := h.2.2.1
  omega
/-- a line that may be cited: by the box, and by the depths -/
theorem dc_cit (hl : lc ≤ 32) (h : dc_LN fa fc N lf lr la lb ld lx lab bp bo lc pr ob im) {i : Nat} (hi : i < lc) : (lx i = -1 ∧ dc_CI ld lc i) ∨ ∃ b : Nat, b < lc ∧ lx i = nI b ∧ (¬ bo b = 0 ↔ dc_CI ld lc i) := by
  rcases dc_SB_all hl h.1 i hi with s | ⟨b, s1, s2, s3, s4, s5, s6⟩
  · exact Or.inl ⟨s.1, fun k h1 h2 => by omega⟩
  · refine Or.inr ⟨b, by omega, s2, ?_⟩
    rw [h.2.2.2.2 b (by omega) s3]
    constructor
    · intro q k k1 k2
      have := q k (by omega) k2
      omega
    · intro q k k1 k2
      by_cases e : k ≤ i
      · exact s6 k k1 e
      · have := q k (by omega) k2
        omega
theorem dx_cit {post : Int32 → Prop} (hl : lc ≤ 32) (h : dc_LN fa fc N lf lr la lb ld lx lab bp bo lc pr ob im) {i : Nat} (hi : i < lc) (K1 : dc_CI ld lc i → post 1) (K0 : ¬ dc_CI ld lc i → post 0) : wpX_isCitable post (dc_X fa fl fc ml mb lc pr ob im kf N tr lf lr la lb ld lx lab bp bo nd Q O pl) (nI i) := by
  have hv : vp_in (nI i) 32 := vp_in_nI (by omega) (by omega)
  have ei : (nI i).toNatClampNeg = i := nI_clamp (by omega)
  unfold wpX_isCitable
  refine br_f (nI_pos (by omega)) (br_f (nI_ge hi (by omega)) (br_f dc_10 ⟨hv, ?_⟩))
  rw [ei]
  rcases dc_cit hl h hi with ⟨e, c⟩ | ⟨b, hb, e, c⟩
  · rw [e]
    exact nm_e (br_t dc_n1 (K1 c))
  · rw [e]
    refine nm_e (br_f (nI_pos (by omega)) ⟨vp_in_nI (by omega) (by omega), ?_⟩)
    rw [nI_clamp (by omega)]
    refine br_c (fun z => K0 (fun q => c.mpr q z)) (fun z => K1 (c.mp z))
theorem dx_cit_f {post : Int32 → Prop} {x : Int32} (h : x < 0 ∨ nI lc ≤ x) (K : post 0) : wpX_isCitable post (dc_X fa fl fc ml mb lc pr ob im kf N tr lf lr la lb ld lx lab bp bo nd Q O pl) x := by
  unfold wpX_isCitable
  by_cases h0 : x < 0
  · exact br_t h0 (br_t rfl K)
  · exact br_f h0 (br_t (h.resolve_left h0) (br_t rfl K))
theorem dy_cit {post : Int32 → Prop} (hl : lc ≤ 32) (hd : ∀ n, n < lc → ld n = nI (dc_d ld n) ∧ dc_d ld n ≤ 3) {i : Nat} (hi : i < lc) (K1 : dc_CI ld lc i → post 1) (K0 : ¬ dc_CI ld lc i → post 0) : wpY_citable post (dc_Y fa fl ml mb fc lc kc yk yl yr yt lf lr ld la lb yn kF kR kN) (nI i) := by
  have hv : vp_in (nI i) 32 := vp_in_nI (by omega) (by omega)
  have ei : (nI i).toNatClampNeg = i := nI_clamp (by omega)
  have main : ∀ g j, j ≤ lc → lc - j < g → i < j → (∀ k, i < k → k < j → dc_d ld i ≤ dc_d ld k) → wY_citable_18 post (nI i) (nI fa) (nI fl) (nI ml) (nI mb) (nI fc) (nI lc) (nI kc) yk yl yr yt lf lr ld la lb yn kF kR kN g (nI j) := by
    intro g
    induction g with
    | zero => intro j _ h; omega
    | succ g ih =>
      intro j hj hg hij h
      refine pk_le lc j (fun q => K1 (fun k k1 k2 => h k k1 (by omega))) (fun q => ⟨vp_in_nI (by omega) (by omega), hv, ?_⟩)
      rw [ei, nI_clamp (by omega)]
      refine pk_le (dc_d ld i) (dc_d ld j) (fun z => nm_r (nI_1 j) (ih (j + 1) q (by omega) (by omega) (fun k k1 k2 => ?_))) (fun z => K0 (fun c => ?_)) (hd i hi).1 (hd j q).1 (by have := (hd i hi).2; omega) (by have := (hd j q).2; omega)
      · by_cases e : k = j
        · subst e; exact z
        · exact h k k1 (by omega)
      · have := c j hij q
        omega
  exact br_f (nI_pos (by omega)) (br_t (nI_lt hi (by omega)) (nm_r (nI_1 i) (Exists.intro (lc + 1) (main (lc + 1) (i + 1) hi (by omega) (by omega) (fun k k1 k2 => by omega)))))
theorem dy_cit_f {post : Int32 → Prop} {x : Int32} (h : x < 0 ∨ nI lc ≤ x) (K : post 0) : wpY_citable post (dc_Y fa fl ml mb fc lc kc yk yl yr yt lf lr ld la lb yn kF kR kN) x := by
  by_cases h0 : x < 0
  · exact br_t h0 K
  · exact br_f h0 (br_f (Int32.not_lt.mpr (h.resolve_left h0)) K)
theorem dc_LN_d (h : dc_LN fa fc N lf lr la lb ld lx lab bp bo lc pr ob im) : ∀ n, n < lc → ld n = nI (dc_d ld n) ∧ dc_d ld n ≤ 3 := fun n hn => ⟨(h.1 n hn).2.1, (h.1 n hn).2.2.1⟩
end
theorem i_vc_citable {k : Nat} {u : SX} {v : SY} (I : i_Rel k u v) (hk : k + 5 ≤ 2564) (v1 : Int32) : wpX_citable (fun r => wpY_citable (fun r' => r' = r ∧ i_Rel (k + 5) u v) v v1) u v1 := by
  refine dc_el (P := fun u v => wpX_citable (fun r => wpY_citable (fun r' => r' = r ∧ i_Rel (k + 5) u v) v v1) u v1) I ?_
  intro fa fl fc ml mb lc pr ob kc im kf N tr lf lr la lb ld lx lab bp bo nd Q O pl yk yl yr yt yn kF kR kN g
  have g' := g
  obtain ⟨⟨f1, f2, f3, f4, f5, f6, f7⟩, hW, hU, hY, hL, hK⟩ := g'
  unfold wpX_citable
  rcases pk_ix v1 (n := lc) (by omega) with q | q | ⟨i, hi, rfl⟩
  · refine dx_cit_f (Or.inl q) ?_
    refine br_t rfl ?_
    exact dy_cit_f (Or.inl q) ⟨rfl, dc_mk g⟩
  · refine dx_cit_f (Or.inr q) ?_
    refine br_t rfl ?_
    exact dy_cit_f (Or.inr q) ⟨rfl, dc_mk g⟩
  · refine dx_cit (by omega) hL hi (fun c => ?_) (fun c => ?_)
    · refine br_f dc_10 ?_
      exact dy_cit (by omega) (dc_LN_d hL) hi (fun _ => ⟨rfl, dc_mk g⟩) (fun c' => absurd c c')
    · refine br_t rfl ?_
      exact dy_cit (by omega) (dc_LN_d hL) hi (fun c' => absurd c' c) (fun _ => ⟨rfl, dc_mk g⟩)
end
section
/-! premise and assume -/
section
variable {fa fl fc ml mb lc pr ob kc : Nat} {im kf : Int32} {N : dc_N} {tr lf lr la lb ld lx lab bp bo nd pl : Nat → Int32} {Q O : dc_O} {yk yl yr yt yn kF kR kN : Nat → Int32}
theorem dy_premise {post : Int32 → SY → Prop} {f : Nat} (hf : f < fc) (hc : fc ≤ 32) (hm : ml ≤ 32) (hlm : lc ≤ ml) (hd : ∀ n, n < lc → ld n = nI (dc_d ld n)) (hob : dc_pd ld lc ≤ 3) (hnp : dc_np lr lc ≤ 8)
    (K1 : ml ≤ lc → post (-2) (dc_Y fa fl ml mb fc lc kc yk yl yr yt lf lr ld la lb yn kF kR kN)) (K2 : lc < ml → 8 ≤ dc_np lr lc → post (-2) (dc_Y fa fl ml mb fc lc kc yk yl yr yt lf lr ld la lb yn kF kR kN)) (K3 : lc < ml → dc_np lr lc < 8 → 0 < dc_pd ld lc → post (-7) (dc_Y fa fl ml mb fc lc kc yk yl yr yt lf lr ld la lb yn kF kR kN))
    (K4 : lc < ml → dc_np lr lc < 8 → dc_pd ld lc = 0 → post (nI lc) (dc_Y fa fl ml mb fc (lc+1) kc yk yl yr yt (upd lf lc (nI f)) (upd lr lc 7) (upd ld lc 0) (upd la lc (-1)) (upd lb lc (-1)) yn kF kR kN)) : wpY_premise post (dc_Y fa fl ml mb fc lc kc yk yl yr yt lf lr ld la lb yn kF kR kN) (nI f) := by
  have main : ∀ g j, j ≤ lc → lc - j < g → wY_premise_15 post (nI f) (nI fa) (nI fl) (nI ml) (nI mb) (nI fc) (nI lc) (nI kc) yk yl yr yt lf lr ld la lb yn kF kR kN g (nI (dc_np lr j)) (nI j) := by
    intro g
    induction g with
    | zero => intro j _ h; omega
    | succ g ih =>
      intro j hj hg
      refine pk_le lc j (fun q => ?_) (fun q => ⟨vp_in_nI (by omega) (by omega), ?_⟩)
      · have e : j = lc := by omega
        subst e
        refine pk_le ml j K1 (fun q1 => pk_lt (dc_np lr j) 8 (fun q2 => dy_depth (by omega) hd (pk_le (dc_pd ld j) 0 (fun q3 => dy_write (by omega) (K4 q1 q2 (by omega))) (fun q3 => K3 q1 q2 q3))) (fun q2 => K2 q1 q2))
      · have ih' := ih (j + 1) q (by omega)
        rw [nI_clamp (by omega)]
        refine br_c (fun z => nm_r (nI_1 _) (nm_r (nI_1 j) ?_)) (fun z => nm_r (nI_1 j) ?_)
        · rw [dc_np_s, if_pos z] at ih'; exact ih'
        · rw [dc_np_s, if_neg z] at ih'; exact ih'
  unfold wpY_premise
  refine dy_noF_t hf hc ?_
  exact br_t rfl (Exists.intro (lc + 1) (main (lc + 1) 0 (Nat.zero_le _) (by omega)))
theorem dc_ob0 (hl : lc ≤ 32) (h : dc_LN fa fc N lf lr la lb ld lx lab bp bo lc pr ob im) (h0 : ob = 0) : im = -1 := by
  rw [h.2.1]
  have h3 := h.2.2.1
  rw [h0] at h3
  cases lc with
  | zero => rfl
  | succ m =>
    have h3' : 0 = dc_d ld m := h3
    rcases dc_SB_all hl h.1 m (by omega) with s | ⟨b, s1, s2, s3, s4, s5, s6⟩
    · exact s.1
    · omega
end
theorem i_vc_premise {k : Nat} {u : SX} {v : SY} (I : i_Rel k u v) (hk : k + 5 ≤ 2564) (v1 : Int32) : wpX_premise (fun r u' => wpY_premise (fun r' v' => r' = r ∧ i_Rel (k + 5) u' v') v v1) u v1 := by
  refine dc_el (P := fun u v => wpX_premise (fun r u' => wpY_premise (fun r' v' => r' = r ∧ i_Rel (k + 5) u' v') v v1) u v1) I ?_
  intro fa fl fc ml mb lc pr ob kc im kf N tr lf lr la lb ld lx lab bp bo nd Q O pl yk yl yr yt yn kF kR kN g
  have g' := g
  obtain ⟨⟨f1, f2, f3, f4, f5, f6, f7⟩, hW, hU, hY, hL, hK⟩ := g'
  have hobE := hL.2.2.1
  have hprE := hL.2.2.2.1
  unfold wpX_premise
  rcases pk_ix v1 (n := fc) (by omega) with q | q | ⟨f, hf, rfl⟩
  · refine dx_isF_f (Or.inl q) ?_
    refine br_t rfl ?_
    unfold wpY_premise
    refine dy_noF_f (Or.inl q) ?_
    exact br_f dc_10 ⟨rfl, dc_mk g⟩
  · refine dx_isF_f (Or.inr q) ?_
    refine br_t rfl ?_
    unfold wpY_premise
    refine dy_noF_f (Or.inr q) ?_
    exact br_f dc_10 ⟨rfl, dc_mk g⟩
  · refine dx_isF_t hf (by omega) ?_
    have hd : ∀ n, n < lc → ld n = nI (dc_d ld n) := fun n hn => (dc_LN_d hL n hn).1
    refine br_f dc_10 (pk_le ml lc (fun q1 => ?_) (fun q1 => pk_lt pr 8 (fun q2 => pk_le ob 0 (fun q3 => ⟨vp_in_nI (by omega) (by omega), ?_⟩) (fun q3 => ?_)) (fun q2 => ?_)))
    · exact dy_premise hf (by omega) f2 f5 hd (by omega) (by omega) (fun _ => ⟨rfl, dc_mk g⟩) (fun z => by omega) (fun z => by omega) (fun z => by omega)
    · have h0 : ob = 0 := by omega
      have him := dc_ob0 (by omega) hL h0
      refine nm_r (congrArg (fun q => upd lab q (nI pr)) (nI_clamp (by omega))) (nm_r (nI_1 pr) ?_)
      refine dx_write (by omega) ?_
      refine dy_premise hf (by omega) f2 f5 hd (by omega) (by omega) (fun z => by omega) (fun z => by omega) (fun _ _ z => by omega) (fun _ _ _ => ⟨rfl, ?_⟩)
      have hn : dc_NL fa fc N lf lr ld lx (upd lab lc (nI pr)) bp bp lc (nI f) 7 (-1) (-1) 0 (-1) := Or.inl ⟨rfl, rfl, rfl, by rw [← hL.2.1]; exact him, rfl, rfl, by rw [pk_us, hprE], by omega⟩
      have hL' := dc_LN_app (la := la) (lb := lb) (lab' := upd lab lc (nI pr)) (bp' := bp) (bo' := bo) (pr' := pr + 1) (fun k hk => pk_un (by omega)) (fun k hk => rfl) ⟨f, rfl, hf⟩ (by omega) hL hn (by rw [if_pos rfl]) (dc_bo_keep (by omega) hL (by omega)) (fun e => absurd e (by decide))
      subst h0
      subst him
      exact dc_mk (k := k + 5) ⟨⟨f1, f2, f3, f4, by omega, by omega, by omega⟩, hW, hU, hY, hL', hK⟩
    · exact dy_premise hf (by omega) f2 f5 hd (by omega) (by omega) (fun z => by omega) (fun z => by omega) (fun _ _ z => ⟨rfl, dc_mk g⟩) (fun _ _ z => by omega)
    · exact dy_premise hf (by omega) f2 f5 hd (by omega) (by omega) (fun z => by omega) (fun _ _ => ⟨rfl, dc_mk g⟩) (fun _ z => by omega) (fun _ z => by omega)
theorem i_vc_assume {k : Nat} {u : SX} {v : SY} (I : i_Rel k u v) (hk : k + 5 ≤ 2564) (v1 : Int32) : wpX_assume (fun r u' => wpY_assume (fun r' v' => r' = r ∧ i_Rel (k + 5) u' v') v v1) u v1 := by
  refine dc_el (P := fun u v => wpX_assume (fun r u' => wpY_assume (fun r' v' => r' = r ∧ i_Rel (k + 5) u' v') v v1) u v1) I ?_
  intro fa fl fc ml mb lc pr ob kc im kf N tr lf lr la lb ld lx lab bp bo nd Q O pl yk yl yr yt yn kF kR kN g
  have g' := g
  obtain ⟨⟨f1, f2, f3, f4, f5, f6, f7⟩, hW, hU, hY, hL, hK⟩ := g'
  have hobE := hL.2.2.1
  unfold wpX_assume
  rcases pk_ix v1 (n := fc) (by omega) with q | q | ⟨f, hf, rfl⟩
  · refine dx_isF_f (Or.inl q) ?_
    refine br_t rfl ?_
    unfold wpY_assume
    refine dy_noF_f (Or.inl q) ?_
    exact br_f dc_10 ⟨rfl, dc_mk g⟩
  · refine dx_isF_f (Or.inr q) ?_
    refine br_t rfl ?_
    unfold wpY_assume
    refine dy_noF_f (Or.inr q) ?_
    exact br_f dc_10 ⟨rfl, dc_mk g⟩
  · refine dx_isF_t hf (by omega) ?_
    have hd : ∀ n, n < lc → ld n = nI (dc_d ld n) := fun n hn => (dc_LN_d hL n hn).1
    refine br_f dc_10 (pk_lt lc ml (fun q1 => pk_lt ob mb (fun q2 => ⟨vp_in_nI (by omega) (by omega), ?_⟩) (fun q2 => ?_)) (fun q1 => ?_))
    · have hv : vp_in (nI lc) 32 := vp_in_nI (by omega) (by omega)
      rw [dc_b1]
      refine nm_r (congrArg (fun q => upd bp q im) (nI_clamp (by omega))) ⟨hv, nm_r (congrArg (fun q => upd bo q 1) (nI_clamp (by omega))) (nm_r (nI_1 ob) ?_)⟩
      refine dx_write (ob := ob + 1) (by omega) ?_
      unfold wpY_assume
      refine dy_noF_t hf (by omega) ?_
      refine br_t rfl (pk_lt lc ml (fun _ => dy_depth (by omega) hd ?_) (fun z => by omega))
      rw [← hobE]
      refine pk_lt ob mb (fun _ => ?_) (fun z => by omega)
      rw [nI_1]
      refine dy_write (by omega) ⟨rfl, ?_⟩
      have hn : dc_NL fa fc N lf lr ld lx lab bp (upd bp lc im) lc (nI f) 8 (-1) (-1) (ob + 1) (nI lc) := Or.inr (Or.inl ⟨rfl, rfl, rfl, rfl, by rw [pk_us]; exact hL.2.1, by omega⟩)
      have hbk := dc_bo_keep (d := ob + 1) (by omega) hL (by omega)
      have hL' := dc_LN_app (la := la) (lb := lb) (lab' := lab) (bp' := upd bp lc im) (bo' := upd bo lc 1) (pr' := pr) (fun k hk => rfl) (fun k hk => pk_un (by omega)) ⟨f, rfl, hf⟩ (by omega) hL hn (by rw [if_neg (by decide)]; rfl) (fun b hb h8 => by rw [pk_un (by omega)]; exact hbk b hb h8) (fun _ => by rw [pk_us]; decide)
      exact dc_mk (k := k + 5) ⟨⟨f1, f2, f3, f4, by omega, by omega, by omega⟩, hW, hU, hY, hL', hK⟩
    · unfold wpY_assume
      refine dy_noF_t hf (by omega) ?_
      refine br_t rfl (pk_lt lc ml (fun _ => dy_depth (by omega) hd ?_) (fun z => by omega))
      rw [← hobE]
      exact pk_lt ob mb (fun z => by omega) (fun z => ⟨rfl, dc_mk g⟩)
    · unfold wpY_assume
      refine dy_noF_t hf (by omega) ?_
      exact br_t rfl (pk_lt lc ml (fun z => by omega) (fun z => ⟨rfl, dc_mk g⟩))
end
section
/-! infer -/
section
variable {fa fl fc ml mb lc pr ob kc : Nat} {im kf : Int32} {N : dc_N} {tr lf lr la lb ld lx lab bp bo nd pl : Nat → Int32} {Q O : dc_O} {yk yl yr yt yn kF kR kN : Nat → Int32}
theorem dc_J_i {k x y : Int32} {n : Nat} (hc : fc ≤ 32) (hn : n < fc) : dc_J fc N k (nI n) x y ↔ (N.1 n = k ∧ N.2.1 n = x ∧ N.2.2.1 n = y) := by
  constructor
  · rintro ⟨m, e, h, r⟩
    have := dc_inj e (by omega) (by omega)
    subst this
    exact r
  · intro r
    exact ⟨n, rfl, hn, r⟩
theorem dy_chk {k a b : Int32} {n : Nat} {A B : Prop} (hn : n < 32) (K1 : yk n = k ∧ yl n = a ∧ yr n = b → A) (K0 : ¬ (yk n = k ∧ yl n = a ∧ yr n = b) → B) :
    vp_in (nI n) 32 ∧ ((yk (nI n).toNatClampNeg = k → (vp_in (nI n) 32 ∧ ((yl (nI n).toNatClampNeg = a → (vp_in (nI n) 32 ∧ ((yr (nI n).toNatClampNeg = b → A) ∧ (¬ yr (nI n).toNatClampNeg = b → B)))) ∧ (¬ yl (nI n).toNatClampNeg = a → B)))) ∧ (¬ yk (nI n).toNatClampNeg = k → B)) := by
  have hv : vp_in (nI n) 32 := vp_in_nI hn (by omega)
  rw [nI_clamp (by omega)]
  exact ⟨hv, br_c (fun e1 => ⟨hv, br_c (fun e2 => ⟨hv, br_c (fun e3 => K1 ⟨e1, e2, e3⟩) (fun e3 => K0 (fun z => e3 z.2.2))⟩) (fun e2 => K0 (fun z => e2 z.2.1))⟩) (fun e1 => K0 (fun z => e1 z.1))⟩
theorem dy_inf_end {post : Int32 → SY → Prop} {r f x y z : Int32} (hl : lc < 32) (hd : ∀ n, n < lc → ld n = nI (dc_d ld n)) (hobE : ob = dc_pd ld lc)
    (K : post (nI lc) (dc_Y fa fl ml mb fc (lc+1) kc yk yl yr yt (upd lf lc f) (upd lr lc r) (upd ld lc (nI ob)) (upd la lc x) (upd lb lc (if z = 0 then -1 else y)) yn kF kR kN)) : wY_infer_263 post r f x y z (nI fa) (nI fl) (nI ml) (nI mb) (nI fc) (nI lc) (nI kc) yk yl yr yt lf lr ld la lb yn kF kR kN := by
  unfold wY_infer_263
  refine dy_depth (by omega) hd ?_
  rw [← hobE]
  by_cases h : z = 0
  · rw [if_pos h] at K
    exact br_t h (dy_write hl K)
  · rw [if_neg h] at K
    exact br_f h (dy_write hl K)
/-- the relation with an inferred line more -/
theorem dc_G_inf {f : Nat} {r a b : Int32} (hf : f < fc) (hlm : lc < ml) (h7 : ¬ r = 7) (h8 : ¬ r = 8) (g : dc_G fa fl fc ml mb lc pr ob im kf N lf lr la lb ld lx lab bp bo Q kc yk yl yr kF kR kN)
    (hn : ∃ i : Nat, a = nI i ∧ i < lc ∧ dc_CI ld lc i ∧
    ((r = 0 ∧ b = -1 ∧ lf i = nI f) ∨ (r = 3 ∧ b = -1 ∧ ∃ q, dc_J fc N 3 (lf i) (nI f) q) ∨ (r = 4 ∧ b = -1 ∧ ∃ q, dc_J fc N 3 (lf i) q (nI f)) ∨
     (∃ j : Nat, b = nI j ∧ j < lc ∧ dc_CI ld lc j ∧ ((r = 1 ∧ dc_J fc N 2 (lf i) (lf j) (nI f)) ∨ (r = 2 ∧ dc_J fc N 3 (nI f) (lf i) (lf j)))))) :
    dc_G fa fl fc ml mb (lc + 1) pr ob im kf N (upd lf lc (nI f)) (upd lr lc r) (upd la lc a) (upd lb lc b) (upd ld lc (nI ob)) (upd lx lc im) lab bp bo Q kc yk yl yr kF kR kN := by
  obtain ⟨⟨f1, f2, f3, f4, f5, f6, f7⟩, hW, hU, hY, hL, hK⟩ := g
  have hL' := dc_LN_app (lab' := lab) (bp' := bp) (bo' := bo) (pr' := pr) (fun k hk => rfl) (fun k hk => rfl) ⟨f, rfl, hf⟩ (by omega) hL (Or.inr (Or.inr (Or.inl ⟨hL.2.1, hL.2.2.1, hn⟩))) (by rw [if_neg h7]; rfl) (dc_bo_keep (by omega) hL (Nat.le_refl _)) (fun e => absurd e h8)
  exact ⟨⟨f1, f2, f3, f4, by omega, f6, f7⟩, hW, hU, hY, hL', hK⟩
/-- one citation -/
theorem dc_inf1 {k : Nat} {r y : Int32} {f i : Nat} (C : Prop) (h0 : ¬ r < 0) (h4 : r ≤ 4) (n1 : ¬ r = 1) (n2 : ¬ r = 2) (hf : f < fc) (hlm : lc < ml) (hi : i < lc) (g : dc_G fa fl fc ml mb lc pr ob im kf N lf lr la lb ld lx lab bp bo Q kc yk yl yr kF kR kN)
    (hX : ∀ post : Int32 → Prop, (C → post 1) → (¬ C → post 0) → wpX_fits post (dc_X fa fl fc ml mb lc pr ob im kf N tr lf lr la lb ld lx lab bp bo nd Q O pl) r (nI f) (lf i) (-1))
    (hYf : ∀ post : Int32 → SY → Prop, (C → wY_infer_263 post r (nI f) (nI i) y 0 (nI fa) (nI fl) (nI ml) (nI mb) (nI fc) (nI lc) (nI kc) yk yl yr yt lf lr ld la lb yn kF kR kN) → (¬ C → post (-6) (dc_Y fa fl ml mb fc lc kc yk yl yr yt lf lr ld la lb yn kF kR kN)) → wY_infer_106 post r (nI f) (nI i) y 0 (lf i) (-1) (nI fa) (nI fl) (nI ml) (nI mb) (nI fc) (nI lc) (nI kc) yk yl yr yt lf lr ld la lb yn kF kR kN)
    (hC : C → (r = 0 ∧ lf i = nI f) ∨ (r = 3 ∧ ∃ q, dc_J fc N 3 (lf i) (nI f) q) ∨ (r = 4 ∧ ∃ q, dc_J fc N 3 (lf i) q (nI f))) :
    wpX_infer (fun r' u' => wpY_infer (fun r'' v' => r'' = r' ∧ i_Rel (k + 5) u' v') (dc_Y fa fl ml mb fc lc kc yk yl yr yt lf lr ld la lb yn kF kR kN) r (nI f) (nI i) y) (dc_X fa fl fc ml mb lc pr ob im kf N tr lf lr la lb ld lx lab bp bo nd Q O pl) r (nI f) (nI i) y := by
  have g' := g
  obtain ⟨⟨f1, f2, f3, f4, f5, f6, f7⟩, hW, hU, hY, hL, hK⟩ := g'
  have hobE := hL.2.2.1
  have hd : ∀ n, n < lc → ld n = nI (dc_d ld n) := fun n hn => (dc_LN_d hL n hn).1
  have hv : vp_in (nI i) 32 := vp_in_nI (by omega) (by omega)
  have ei : (nI i).toNatClampNeg = i := nI_clamp (by omega)
  -- the reference, ahead of its checks
  have yc : ∀ post : Int32 → SY → Prop, (¬ dc_CI ld lc i → post (-5) (dc_Y fa fl ml mb fc lc kc yk yl yr yt lf lr ld la lb yn kF kR kN)) → (dc_CI ld lc i → C → wY_infer_263 post r (nI f) (nI i) y 0 (nI fa) (nI fl) (nI ml) (nI mb) (nI fc) (nI lc) (nI kc) yk yl yr yt lf lr ld la lb yn kF kR kN) → (dc_CI ld lc i → ¬ C → post (-6) (dc_Y fa fl ml mb fc lc kc yk yl yr yt lf lr ld la lb yn kF kR kN)) → wpY_infer post (dc_Y fa fl ml mb fc lc kc yk yl yr yt lf lr ld la lb yn kF kR kN) r (nI f) (nI i) y := by
    intro post k5 kc' k6
    refine br_f h0 (br_t h4 ?_)
    refine dy_noF_t hf (by omega) ?_
    refine br_t rfl (br_t (nI_lt hlm (by omega)) ?_)
    refine dy_cit (by omega) (dc_LN_d hL) hi (fun c => ?_) (fun c => br_t rfl (k5 c))
    refine br_f dc_10 (br_f n1 (br_f n2 (br_t rfl ⟨hv, ?_⟩)))
    rw [ei]
    exact nm_e (br_t rfl (hYf post (kc' c) (k6 c)))
  refine br_f h0 (br_t h4 ?_)
  refine dx_isF_t hf (by omega) ?_
  refine br_f dc_10 (br_t (nI_lt hlm (by omega)) (br_f n1 (br_f n2 ?_)))
  unfold wX_infer_52
  refine dx_cit (by omega) hL hi (fun c => ?_) (fun c => ?_)
  · refine br_f dc_10 (br_t rfl (br_t rfl (And.intro hv ?_)))
    rw [ei]
    refine hX _ (fun c2 => br_f dc_10 (dx_write (by omega) ?_)) (fun c2 => br_t rfl ?_)
    · refine yc _ (fun z => absurd c z) (fun _ _ => dy_inf_end (by omega) hd hobE ⟨rfl, ?_⟩) (fun _ z => absurd c2 z)
      have hr : ¬ r = 7 ∧ ¬ r = 8 := by
        rcases hC c2 with q | q | q <;> rw [q.1] <;> decide
      rw [if_pos rfl]
      refine dc_mk (k := k + 5) (dc_G_inf hf hlm hr.1 hr.2 g ⟨i, rfl, hi, c, ?_⟩)
      rcases hC c2 with q | q | q
      · exact Or.inl ⟨q.1, rfl, q.2⟩
      · exact Or.inr (Or.inl ⟨q.1, rfl, q.2⟩)
      · exact Or.inr (Or.inr (Or.inl ⟨q.1, rfl, q.2⟩))
    · exact yc _ (fun z => absurd c z) (fun _ z => absurd z c2) (fun _ _ => ⟨rfl, dc_mk g⟩)
  · exact br_t rfl (yc _ (fun _ => ⟨rfl, dc_mk g⟩) (fun z => absurd z c) (fun z => absurd z c))
/-- two citations -/
theorem dc_inf2 {k : Nat} {r : Int32} {f i j : Nat} (C : Prop) (h0 : ¬ r < 0) (h4 : r ≤ 4) (n1 : r = 1 ∨ r = 2) (hf : f < fc) (hlm : lc < ml) (hi : i < lc) (hj : j < lc) (g : dc_G fa fl fc ml mb lc pr ob im kf N lf lr la lb ld lx lab bp bo Q kc yk yl yr kF kR kN)
    (hX : ∀ post : Int32 → Prop, (C → post 1) → (¬ C → post 0) → wpX_fits post (dc_X fa fl fc ml mb lc pr ob im kf N tr lf lr la lb ld lx lab bp bo nd Q O pl) r (nI f) (lf i) (nI j))
    (hYf : ∀ post : Int32 → SY → Prop, (C → wY_infer_263 post r (nI f) (nI i) (nI j) 1 (nI fa) (nI fl) (nI ml) (nI mb) (nI fc) (nI lc) (nI kc) yk yl yr yt lf lr ld la lb yn kF kR kN) → (¬ C → post (-6) (dc_Y fa fl ml mb fc lc kc yk yl yr yt lf lr ld la lb yn kF kR kN)) → wY_infer_106 post r (nI f) (nI i) (nI j) 1 (lf i) (lf j) (nI fa) (nI fl) (nI ml) (nI mb) (nI fc) (nI lc) (nI kc) yk yl yr yt lf lr ld la lb yn kF kR kN)
    (hC : C → (r = 1 ∧ dc_J fc N 2 (lf i) (lf j) (nI f)) ∨ (r = 2 ∧ dc_J fc N 3 (nI f) (lf i) (lf j))) :
    wpX_infer (fun r' u' => wpY_infer (fun r'' v' => r'' = r' ∧ i_Rel (k + 5) u' v') (dc_Y fa fl ml mb fc lc kc yk yl yr yt lf lr ld la lb yn kF kR kN) r (nI f) (nI i) (nI j)) (dc_X fa fl fc ml mb lc pr ob im kf N tr lf lr la lb ld lx lab bp bo nd Q O pl) r (nI f) (nI i) (nI j) := by
  have g' := g
  obtain ⟨⟨f1, f2, f3, f4, f5, f6, f7⟩, hW, hU, hY, hL, hK⟩ := g'
  have hobE := hL.2.2.1
  have hd : ∀ n, n < lc → ld n = nI (dc_d ld n) := fun n hn => (dc_LN_d hL n hn).1
  have hv : vp_in (nI i) 32 := vp_in_nI (by omega) (by omega)
  have ei : (nI i).toNatClampNeg = i := nI_clamp (by omega)
  have hvj : vp_in (nI j) 32 := vp_in_nI (by omega) (by omega)
  have ej : (nI j).toNatClampNeg = j := nI_clamp (by omega)
  have two : ∀ {A B : Prop}, A → ((r = 1 → A) ∧ (¬ r = 1 → ((r = 2 → A) ∧ (¬ r = 2 → B)))) := by
    intro A B a
    rcases n1 with e | e
    · exact br_t e a
    · exact br_f (by rw [e]; decide) (br_t e a)
  have yc : ∀ post : Int32 → SY → Prop, (¬ (dc_CI ld lc i ∧ dc_CI ld lc j) → post (-5) (dc_Y fa fl ml mb fc lc kc yk yl yr yt lf lr ld la lb yn kF kR kN)) → (dc_CI ld lc i ∧ dc_CI ld lc j → C → wY_infer_263 post r (nI f) (nI i) (nI j) 1 (nI fa) (nI fl) (nI ml) (nI mb) (nI fc) (nI lc) (nI kc) yk yl yr yt lf lr ld la lb yn kF kR kN) → (dc_CI ld lc i ∧ dc_CI ld lc j → ¬ C → post (-6) (dc_Y fa fl ml mb fc lc kc yk yl yr yt lf lr ld la lb yn kF kR kN)) → wpY_infer post (dc_Y fa fl ml mb fc lc kc yk yl yr yt lf lr ld la lb yn kF kR kN) r (nI f) (nI i) (nI j) := by
    intro post k5 kc' k6
    refine br_f h0 (br_t h4 ?_)
    refine dy_noF_t hf (by omega) ?_
    refine br_t rfl (br_t (nI_lt hlm (by omega)) ?_)
    refine dy_cit (by omega) (dc_LN_d hL) hi (fun c => ?_) (fun c => br_t rfl (k5 (fun z => c z.1)))
    refine br_f dc_10 (two (br_f dc_10 ?_))
    refine dy_cit (by omega) (dc_LN_d hL) hj (fun c2 => br_f dc_10 (And.intro hv ?_)) (fun c2 => br_t rfl (k5 (fun z => c2 z.2)))
    rw [ei]
    refine nm_e (br_f dc_10 ⟨hvj, ?_⟩)
    rw [ej]
    exact hYf post (kc' ⟨c, c2⟩) (k6 ⟨c, c2⟩)
  refine br_f h0 (br_t h4 ?_)
  refine dx_isF_t hf (by omega) ?_
  refine br_f dc_10 (br_t (nI_lt hlm (by omega)) (two ?_))
  unfold wX_infer_47 wX_infer_52
  refine dx_cit (by omega) hL hi (fun c => ?_) (fun c => ?_)
  · refine br_f dc_10 (br_f dc_10 ?_)
    refine dx_cit (by omega) hL hj (fun c1 => ?_) (fun c1 => ?_)
    · refine br_f dc_10 (br_f dc_10 (And.intro hv ?_))
      rw [ei]
      refine hX _ (fun c2 => br_f dc_10 (dx_write (by omega) ?_)) (fun c2 => br_t rfl ?_)
      · refine yc _ (fun z => absurd ⟨c, c1⟩ z) (fun _ _ => dy_inf_end (by omega) hd hobE ⟨rfl, ?_⟩) (fun _ z => absurd c2 z)
        have hr : ¬ r = 7 ∧ ¬ r = 8 := by
          rcases hC c2 with q | q <;> rw [q.1] <;> decide
        rw [if_neg dc_10]
        refine dc_mk (k := k + 5) (dc_G_inf hf hlm hr.1 hr.2 g ⟨i, rfl, hi, c, ?_⟩)
        exact Or.inr (Or.inr (Or.inr ⟨j, rfl, hj, c1, hC c2⟩))
      · exact yc _ (fun z => absurd ⟨c, c1⟩ z) (fun _ z => absurd z c2) (fun _ _ => ⟨rfl, dc_mk g⟩)
    · exact br_t rfl (yc _ (fun _ => ⟨rfl, dc_mk g⟩) (fun z => absurd z.2 c1) (fun z => absurd z.2 c1))
  · exact br_t rfl (yc _ (fun _ => ⟨rfl, dc_mk g⟩) (fun z => absurd z.1 c) (fun z => absurd z.1 c))
end
end
section
section
variable {fa fl fc ml mb lc pr ob kc : Nat} {im kf : Int32} {N : dc_N} {tr lf lr la lb ld lx lab bp bo nd pl : Nat → Int32} {Q O : dc_O} {yk yl yr yt yn kF kR kN : Nat → Int32}
theorem dx_fit0 {post : Int32 → Prop} {x y z : Int32} (K1 : x = y → post 1) (K0 : ¬ x = y → post 0) : wpX_fits post (dc_X fa fl fc ml mb lc pr ob im kf N tr lf lr la lb ld lx lab bp bo nd Q O pl) 0 x y z := br_t rfl (br_c K1 K0)
theorem dx_fit1 {post : Int32 → Prop} {x : Int32} {n j : Nat} (hn : n < 1024) (hj : j < 32) (K1 : N.1 n = 2 ∧ N.2.1 n = lf j ∧ N.2.2.1 n = x → post 1) (K0 : ¬ (N.1 n = 2 ∧ N.2.1 n = lf j ∧ N.2.2.1 n = x) → post 0) : wpX_fits post (dc_X fa fl fc ml mb lc pr ob im kf N tr lf lr la lb ld lx lab bp bo nd Q O pl) 1 x (nI n) (nI j) := by
  refine br_f (by decide) (br_t rfl ⟨vp_in_nI hj (by omega), ?_⟩)
  rw [nI_clamp (by omega)]
  exact dx_node hn (fun a b c => ⟨narrow_b1, K1 ⟨a, b, c⟩⟩) (fun h => ⟨narrow_b0, K0 h⟩)
theorem dx_fit2 {post : Int32 → Prop} {y : Int32} {n j : Nat} (hn : n < 1024) (hj : j < 32) (K1 : N.1 n = 3 ∧ N.2.1 n = y ∧ N.2.2.1 n = lf j → post 1) (K0 : ¬ (N.1 n = 3 ∧ N.2.1 n = y ∧ N.2.2.1 n = lf j) → post 0) : wpX_fits post (dc_X fa fl fc ml mb lc pr ob im kf N tr lf lr la lb ld lx lab bp bo nd Q O pl) 2 (nI n) y (nI j) := by
  refine br_f (by decide) (br_f (by decide) (br_t rfl ⟨vp_in_nI hj (by omega), ?_⟩))
  rw [nI_clamp (by omega)]
  exact dx_node hn (fun a b c => ⟨narrow_b1, K1 ⟨a, b, c⟩⟩) (fun h => ⟨narrow_b0, K0 h⟩)
theorem dx_fit3 {post : Int32 → Prop} {x z : Int32} {n : Nat} (hn : n < 1024) (K1 : N.1 n = 3 ∧ N.2.1 n = x → post 1) (K0 : ¬ (N.1 n = 3 ∧ N.2.1 n = x) → post 0) : wpX_fits post (dc_X fa fl fc ml mb lc pr ob im kf N tr lf lr la lb ld lx lab bp bo nd Q O pl) 3 x (nI n) z := by
  have hv : vp_in (nI n) 1024 := vp_in_nI hn (by omega)
  refine br_f (by decide) (br_f (by decide) (br_f (by decide) ⟨hv, ?_⟩))
  rw [nI_clamp (by omega)]
  exact br_c (fun a => br_t rfl ⟨hv, br_c (fun b => K1 ⟨a, b⟩) (fun b => K0 (fun z => b z.2))⟩) (fun a => K0 (fun z => a z.1))
theorem dx_fit4 {post : Int32 → Prop} {x z : Int32} {n : Nat} (hn : n < 1024) (K1 : N.1 n = 3 ∧ N.2.2.1 n = x → post 1) (K0 : ¬ (N.1 n = 3 ∧ N.2.2.1 n = x) → post 0) : wpX_fits post (dc_X fa fl fc ml mb lc pr ob im kf N tr lf lr la lb ld lx lab bp bo nd Q O pl) 4 x (nI n) z := by
  have hv : vp_in (nI n) 1024 := vp_in_nI hn (by omega)
  refine br_f (by decide) (br_f (by decide) (br_f (by decide) ⟨hv, ?_⟩))
  rw [nI_clamp (by omega)]
  exact br_c (fun a => br_f (by decide) ⟨hv, br_c (fun b => K1 ⟨a, b⟩) (fun b => K0 (fun z => b z.2))⟩) (fun a => K0 (fun z => a z.1))
theorem dy_fit0 {post : Int32 → SY → Prop} {x a b z y w : Int32} (K1 : x = y → wY_infer_263 post 0 x a b z (nI fa) (nI fl) (nI ml) (nI mb) (nI fc) (nI lc) (nI kc) yk yl yr yt lf lr ld la lb yn kF kR kN) (K0 : ¬ x = y → post (-6) (dc_Y fa fl ml mb fc lc kc yk yl yr yt lf lr ld la lb yn kF kR kN)) : wY_infer_106 post 0 x a b z y w (nI fa) (nI fl) (nI ml) (nI mb) (nI fc) (nI lc) (nI kc) yk yl yr yt lf lr ld la lb yn kF kR kN :=
  br_t rfl (br_c (fun e => br_f (by decide) (br_f (by decide) (br_f (by decide) (br_f (by decide) (K1 e))))) K0)
theorem dy_fit1 {post : Int32 → SY → Prop} {x a b z w : Int32} {n : Nat} (hn : n < 32) (K1 : yk n = 2 ∧ yl n = w ∧ yr n = x → wY_infer_263 post 1 x a b z (nI fa) (nI fl) (nI ml) (nI mb) (nI fc) (nI lc) (nI kc) yk yl yr yt lf lr ld la lb yn kF kR kN) (K0 : ¬ (yk n = 2 ∧ yl n = w ∧ yr n = x) → post (-6) (dc_Y fa fl ml mb fc lc kc yk yl yr yt lf lr ld la lb yn kF kR kN)) : wY_infer_106 post 1 x a b z (nI n) w (nI fa) (nI fl) (nI ml) (nI mb) (nI fc) (nI lc) (nI kc) yk yl yr yt lf lr ld la lb yn kF kR kN := by
  refine br_f (by decide) (br_t rfl (dy_chk hn (fun h => ?_) K0))
  exact br_f (by decide) (br_f (by decide) (br_f (by decide) (K1 h)))
theorem dy_fit2 {post : Int32 → SY → Prop} {y a b z w : Int32} {n : Nat} (hn : n < 32) (K1 : yk n = 3 ∧ yl n = y ∧ yr n = w → wY_infer_263 post 2 (nI n) a b z (nI fa) (nI fl) (nI ml) (nI mb) (nI fc) (nI lc) (nI kc) yk yl yr yt lf lr ld la lb yn kF kR kN) (K0 : ¬ (yk n = 3 ∧ yl n = y ∧ yr n = w) → post (-6) (dc_Y fa fl ml mb fc lc kc yk yl yr yt lf lr ld la lb yn kF kR kN)) : wY_infer_106 post 2 (nI n) a b z y w (nI fa) (nI fl) (nI ml) (nI mb) (nI fc) (nI lc) (nI kc) yk yl yr yt lf lr ld la lb yn kF kR kN := by
  refine br_f (by decide) (br_f (by decide) (br_t rfl (dy_chk hn (fun h => ?_) K0)))
  exact br_f (by decide) (br_f (by decide) (K1 h))
theorem dy_fit3 {post : Int32 → SY → Prop} {x a b z w : Int32} {n : Nat} (hn : n < 32) (K1 : yk n = 3 ∧ yl n = x → wY_infer_263 post 3 x a b z (nI fa) (nI fl) (nI ml) (nI mb) (nI fc) (nI lc) (nI kc) yk yl yr yt lf lr ld la lb yn kF kR kN) (K0 : ¬ (yk n = 3 ∧ yl n = x) → post (-6) (dc_Y fa fl ml mb fc lc kc yk yl yr yt lf lr ld la lb yn kF kR kN)) : wY_infer_106 post 3 x a b z (nI n) w (nI fa) (nI fl) (nI ml) (nI mb) (nI fc) (nI lc) (nI kc) yk yl yr yt lf lr ld la lb yn kF kR kN := by
  have hv : vp_in (nI n) 32 := vp_in_nI hn (by omega)
  refine br_f (by decide) (br_f (by decide) (br_f (by decide) (br_t rfl ⟨hv, ?_⟩)))
  rw [nI_clamp (by omega)]
  exact br_c (fun e1 => ⟨hv, br_c (fun e2 => br_f (by decide) (K1 ⟨e1, e2⟩)) (fun e2 => K0 (fun z => e2 z.2))⟩) (fun e1 => K0 (fun z => e1 z.1))
theorem dy_fit4 {post : Int32 → SY → Prop} {x a b z w : Int32} {n : Nat} (hn : n < 32) (K1 : yk n = 3 ∧ yr n = x → wY_infer_263 post 4 x a b z (nI fa) (nI fl) (nI ml) (nI mb) (nI fc) (nI lc) (nI kc) yk yl yr yt lf lr ld la lb yn kF kR kN) (K0 : ¬ (yk n = 3 ∧ yr n = x) → post (-6) (dc_Y fa fl ml mb fc lc kc yk yl yr yt lf lr ld la lb yn kF kR kN)) : wY_infer_106 post 4 x a b z (nI n) w (nI fa) (nI fl) (nI ml) (nI mb) (nI fc) (nI lc) (nI kc) yk yl yr yt lf lr ld la lb yn kF kR kN := by
  have hv : vp_in (nI n) 32 := vp_in_nI hn (by omega)
  refine br_f (by decide) (br_f (by decide) (br_f (by decide) (br_f (by decide) (br_t rfl ⟨hv, ?_⟩))))
  rw [nI_clamp (by omega)]
  exact br_c (fun e1 => ⟨hv, br_c (fun e2 => K1 ⟨e1, e2⟩) (fun e2 => K0 (fun z => e2 z.2))⟩) (fun e1 => K0 (fun z => e1 z.1))
theorem dc_PY_3 {n : Nat} (hW : dc_NW fa fc N) (hY : dc_PY fa fc N yk yl yr) (hn : n < fc) (x : Int32) : ((yk n = 3 ∧ yl n = x) ↔ (N.1 n = 3 ∧ N.2.1 n = x)) ∧ ((yk n = 3 ∧ yr n = x) ↔ (N.1 n = 3 ∧ N.2.2.1 n = x)) := by
  constructor
  · constructor
    · rintro ⟨a, b⟩
      have := (dc_PY_k (k := 3) (x := x) (y := yr n) (Or.inr rfl) hW hY hn).mp ⟨a, b, rfl⟩
      exact ⟨this.1, this.2.1⟩
    · rintro ⟨a, b⟩
      have := (dc_PY_k (k := 3) (x := x) (y := N.2.2.1 n) (Or.inr rfl) hW hY hn).mpr ⟨a, b, rfl⟩
      exact ⟨this.1, this.2.1⟩
  · constructor
    · rintro ⟨a, b⟩
      have := (dc_PY_k (k := 3) (x := yl n) (y := x) (Or.inr rfl) hW hY hn).mp ⟨a, rfl, b⟩
      exact ⟨this.1, this.2.2⟩
    · rintro ⟨a, b⟩
      have := (dc_PY_k (k := 3) (x := N.2.1 n) (y := x) (Or.inr rfl) hW hY hn).mpr ⟨a, rfl, b⟩
      exact ⟨this.1, this.2.2⟩
end
theorem i_vc_infer {k : Nat} {u : SX} {v : SY} (I : i_Rel k u v) (hk : k + 5 ≤ 2564) (v1 : Int32) (v2 : Int32) (v3 : Int32) (v4 : Int32) : wpX_infer (fun r u' => wpY_infer (fun r' v' => r' = r ∧ i_Rel (k + 5) u' v') v v1 v2 v3 v4) u v1 v2 v3 v4 := by
  refine dc_el (P := fun u v => wpX_infer (fun r u' => wpY_infer (fun r' v' => r' = r ∧ i_Rel (k + 5) u' v') v v1 v2 v3 v4) u v1 v2 v3 v4) I ?_
  intro fa fl fc ml mb lc pr ob kc im kf N tr lf lr la lb ld lx lab bp bo nd Q O pl yk yl yr yt yn kF kR kN g
  have g' := g
  obtain ⟨⟨f1, f2, f3, f4, f5, f6, f7⟩, hW, hU, hY, hL, hK⟩ := g'
  have hd : ∀ n, n < lc → ld n = nI (dc_d ld n) := fun n hn => (dc_LN_d hL n hn).1
  by_cases h0 : v1 < 0
  · exact br_t h0 (br_t h0 ⟨rfl, dc_mk g⟩)
  by_cases h4 : v1 ≤ 4
  · rcases pk_ix v2 (n := fc) (by omega) with q | q | ⟨f, hf, rfl⟩
    · refine br_f h0 (br_t h4 ?_)
      refine dx_isF_f (Or.inl q) ?_
      refine br_t rfl (br_f h0 (br_t h4 ?_))
      refine dy_noF_f (Or.inl q) ?_
      exact br_f dc_10 ⟨rfl, dc_mk g⟩
    · refine br_f h0 (br_t h4 ?_)
      refine dx_isF_f (Or.inr q) ?_
      refine br_t rfl (br_f h0 (br_t h4 ?_))
      refine dy_noF_f (Or.inr q) ?_
      exact br_f dc_10 ⟨rfl, dc_mk g⟩
    · by_cases hlm : lc < ml
      · -- the citations
        have two : ∀ {A B : Prop}, (v1 = 1 ∨ v1 = 2) → A → ((v1 = 1 → A) ∧ (¬ v1 = 1 → ((v1 = 2 → A) ∧ (¬ v1 = 2 → B)))) := by
          intro A B n1 a
          rcases n1 with e | e
          · exact br_t e a
          · exact br_f (by rw [e]; decide) (br_t e a)
        have bad1 : (v3 < 0 ∨ nI lc ≤ v3) → wpX_infer (fun r u' => wpY_infer (fun r' v' => r' = r ∧ i_Rel (k + 5) u' v') (dc_Y fa fl ml mb fc lc kc yk yl yr yt lf lr ld la lb yn kF kR kN) v1 (nI f) v3 v4) (dc_X fa fl fc ml mb lc pr ob im kf N tr lf lr la lb ld lx lab bp bo nd Q O pl) v1 (nI f) v3 v4 := by
          intro q
          have yb : ∀ post : Int32 → SY → Prop, post (-5) (dc_Y fa fl ml mb fc lc kc yk yl yr yt lf lr ld la lb yn kF kR kN) → wpY_infer post (dc_Y fa fl ml mb fc lc kc yk yl yr yt lf lr ld la lb yn kF kR kN) v1 (nI f) v3 v4 := by
            intro post K
            refine br_f h0 (br_t h4 ?_)
            refine dy_noF_t hf (by omega) ?_
            refine br_t rfl (br_t (nI_lt hlm (by omega)) ?_)
            exact dy_cit_f q (br_t rfl K)
          refine br_f h0 (br_t h4 ?_)
          refine dx_isF_t hf (by omega) ?_
          refine br_f dc_10 (br_t (nI_lt hlm (by omega)) ?_)
          by_cases t : v1 = 1 ∨ v1 = 2
          · refine two t ?_
            unfold wX_infer_47 wX_infer_52
            refine dx_cit_f q ?_
            exact br_t rfl (yb _ ⟨rfl, dc_mk g⟩)
          · refine br_f (fun e => t (Or.inl e)) (br_f (fun e => t (Or.inr e)) ?_)
            unfold wX_infer_52
            refine dx_cit_f q ?_
            exact br_t rfl (yb _ ⟨rfl, dc_mk g⟩)
        rcases pk_ix v3 (n := lc) (by omega) with q | q | ⟨i, hi, rfl⟩
        · exact bad1 (Or.inl q)
        · exact bad1 (Or.inr q)
        · have bad2 : (v1 = 1 ∨ v1 = 2) → (v4 < 0 ∨ nI lc ≤ v4) → wpX_infer (fun r u' => wpY_infer (fun r' v' => r' = r ∧ i_Rel (k + 5) u' v') (dc_Y fa fl ml mb fc lc kc yk yl yr yt lf lr ld la lb yn kF kR kN) v1 (nI f) (nI i) v4) (dc_X fa fl fc ml mb lc pr ob im kf N tr lf lr la lb ld lx lab bp bo nd Q O pl) v1 (nI f) (nI i) v4 := by
            intro t q
            have yb : ∀ post : Int32 → SY → Prop, post (-5) (dc_Y fa fl ml mb fc lc kc yk yl yr yt lf lr ld la lb yn kF kR kN) → wpY_infer post (dc_Y fa fl ml mb fc lc kc yk yl yr yt lf lr ld la lb yn kF kR kN) v1 (nI f) (nI i) v4 := by
              intro post K
              refine br_f h0 (br_t h4 ?_)
              refine dy_noF_t hf (by omega) ?_
              refine br_t rfl (br_t (nI_lt hlm (by omega)) ?_)
              refine dy_cit (by omega) (dc_LN_d hL) hi (fun c => br_f dc_10 (two t (br_f dc_10 ?_))) (fun c => br_t rfl K)
              exact dy_cit_f q (br_t rfl K)
            refine br_f h0 (br_t h4 ?_)
            refine dx_isF_t hf (by omega) ?_
            refine br_f dc_10 (br_t (nI_lt hlm (by omega)) (two t ?_))
            unfold wX_infer_47 wX_infer_52
            refine dx_cit (by omega) hL hi (fun c => br_f dc_10 (br_f dc_10 ?_)) (fun c => br_t rfl (yb _ ⟨rfl, dc_mk g⟩))
            refine dx_cit_f q ?_
            exact br_t rfl (yb _ ⟨rfl, dc_mk g⟩)
          obtain ⟨⟨n, en, hn⟩, _⟩ := hL.1 i hi
          obtain ⟨r, hr, rfl⟩ := nI_of2 (M := 4) (n := 4) (by decide) h0 h4
          have : r = 0 ∨ r = 1 ∨ r = 2 ∨ r = 3 ∨ r = 4 := by omega
          rcases this with rfl | rfl | rfl | rfl | rfl
          · -- copy
            refine dc_inf1 (r := 0) (nI f = lf i) h0 h4 (by decide) (by decide) hf hlm hi g (fun post K1 K0 => dx_fit0 K1 K0) (fun post K1 K0 => dy_fit0 K1 K0) (fun e => Or.inl ⟨rfl, e.symm⟩)
          · -- modus
            rcases pk_ix v4 (n := lc) (by omega) with q | q | ⟨j, hj, rfl⟩
            · exact bad2 (Or.inl rfl) (Or.inl q)
            · exact bad2 (Or.inl rfl) (Or.inr q)
            · refine dc_inf2 (r := 1) (N.1 n = 2 ∧ N.2.1 n = lf j ∧ N.2.2.1 n = nI f) h0 h4 (Or.inl rfl) hf hlm hi hj g (fun post K1 K0 => ?_) (fun post K1 K0 => ?_) (fun e => Or.inl ⟨rfl, ?_⟩)
              · rw [en]; exact dx_fit1 (by omega) (by omega) K1 K0
              · rw [en]
                exact dy_fit1 (by omega) (fun e => K1 ((dc_PY_k (Or.inl rfl) hW hY hn).mp e)) (fun e => K0 (fun z => e ((dc_PY_k (Or.inl rfl) hW hY hn).mpr z)))
              · rw [en]; exact (dc_J_i (by omega) hn).mpr e
          · -- pair
            rcases pk_ix v4 (n := lc) (by omega) with q | q | ⟨j, hj, rfl⟩
            · exact bad2 (Or.inr rfl) (Or.inl q)
            · exact bad2 (Or.inr rfl) (Or.inr q)
            · refine dc_inf2 (r := 2) (N.1 f = 3 ∧ N.2.1 f = lf i ∧ N.2.2.1 f = lf j) h0 h4 (Or.inr rfl) hf hlm hi hj g (fun post K1 K0 => ?_) (fun post K1 K0 => ?_) (fun e => Or.inr ⟨rfl, (dc_J_i (by omega) hf).mpr e⟩)
              · exact dx_fit2 (by omega) (by omega) K1 K0
              · exact dy_fit2 (by omega) (fun e => K1 ((dc_PY_k (Or.inr rfl) hW hY hf).mp e)) (fun e => K0 (fun z => e ((dc_PY_k (Or.inr rfl) hW hY hf).mpr z)))
          · -- left
            refine dc_inf1 (r := 3) (N.1 n = 3 ∧ N.2.1 n = nI f) h0 h4 (by decide) (by decide) hf hlm hi g (fun post K1 K0 => ?_) (fun post K1 K0 => ?_) (fun e => Or.inr (Or.inl ⟨rfl, N.2.2.1 n, ?_⟩))
            · rw [en]; exact dx_fit3 (by omega) K1 K0
            · rw [en]
              exact dy_fit3 (by omega) (fun e => K1 ((dc_PY_3 hW hY hn _).1.mp e)) (fun e => K0 (fun z => e ((dc_PY_3 hW hY hn _).1.mpr z)))
            · rw [en]; exact (dc_J_i (by omega) hn).mpr ⟨e.1, e.2, rfl⟩
          · -- right
            refine dc_inf1 (r := 4) (N.1 n = 3 ∧ N.2.2.1 n = nI f) h0 h4 (by decide) (by decide) hf hlm hi g (fun post K1 K0 => ?_) (fun post K1 K0 => ?_) (fun e => Or.inr (Or.inr ⟨rfl, N.2.1 n, ?_⟩))
            · rw [en]; exact dx_fit4 (by omega) K1 K0
            · rw [en]
              exact dy_fit4 (by omega) (fun e => K1 ((dc_PY_3 hW hY hn _).2.mp e)) (fun e => K0 (fun z => e ((dc_PY_3 hW hY hn _).2.mpr z)))
            · rw [en]; exact (dc_J_i (by omega) hn).mpr ⟨e.1, rfl, e.2⟩
      · have q : ¬ nI lc < nI ml := nI_nlt (by omega) (by omega)
        refine br_f h0 (br_t h4 ?_)
        refine dx_isF_t hf (by omega) ?_
        refine br_f dc_10 (br_f q (br_f h0 (br_t h4 ?_)))
        refine dy_noF_t hf (by omega) ?_
        exact br_t rfl (br_f q ⟨rfl, dc_mk g⟩)
  · exact br_f h0 (br_f h4 (br_f h0 (br_f h4 ⟨rfl, dc_mk g⟩)))
end
section
/-! close -/
section
variable {fa fl fc ml mb lc pr ob kc : Nat} {im kf : Int32} {N : dc_N} {tr lf lr la lb ld lx lab bp bo nd pl : Nat → Int32} {Q O : dc_O} {yk yl yr yt yn kF kR kN : Nat → Int32}
theorem dx_close_c {post : Int32 → SX → Prop} {r x : Int32} (hr : r = 5 ∨ r = 6) (h : wX_close_14 post r x 7 8 0 1 2 3 4 5 6 7 8 9 32 1024 (nI fa) (nI fl) (nI fc) (nI N.2.2.2) (nI ml) (nI mb) (nI lc) (nI pr) (nI ob) im 256 (nI Q.2.2.2.2.2) kf (nI O.2.2.2.2.2) N.1 N.2.1 N.2.2.1 tr lf lr la lb ld lx lab bp bo nd Q.1 Q.2.1 Q.2.2.1 Q.2.2.2.1 Q.2.2.2.2.1 O.1 O.2.1 O.2.2.1 O.2.2.2.1 O.2.2.2.2.1 pl) : wpX_close post (dc_X fa fl fc ml mb lc pr ob im kf N tr lf lr la lb ld lx lab bp bo nd Q O pl) r x := by
  rcases hr with rfl | rfl
  · exact br_t rfl h
  · exact br_f (by decide) (br_t rfl h)
theorem dy_close_c {post : Int32 → SY → Prop} {r x : Int32} (hr : r = 5 ∨ r = 6) (h : wY_close_14 post r x (nI fa) (nI fl) (nI ml) (nI mb) (nI fc) (nI lc) (nI kc) yk yl yr yt lf lr ld la lb yn kF kR kN) : wpY_close post (dc_Y fa fl ml mb fc lc kc yk yl yr yt lf lr ld la lb yn kF kR kN) r x := by
  rcases hr with rfl | rfl
  · exact br_t rfl h
  · exact br_f (by decide) (br_t rfl h)
theorem dx_closes {post : Int32 → Prop} {r z : Int32} {f h : Nat} (hr : r = 5 ∨ r = 6) (hf : f < 1024) (hh : h < 1024)
    (K1 : (r = 5 ∧ N.1 f = 2 ∧ N.2.1 f = nI h ∧ N.2.2.1 f = z) ∨ (r = 6 ∧ z = nI fa ∧ N.1 h = 2 ∧ N.2.1 h = nI f ∧ N.2.2.1 h = nI fa) → post 1)
    (K0 : ¬ ((r = 5 ∧ N.1 f = 2 ∧ N.2.1 f = nI h ∧ N.2.2.1 f = z) ∨ (r = 6 ∧ z = nI fa ∧ N.1 h = 2 ∧ N.2.1 h = nI f ∧ N.2.2.1 h = nI fa)) → post 0) : wpX_closes post (dc_X fa fl fc ml mb lc pr ob im kf N tr lf lr la lb ld lx lab bp bo nd Q O pl) r (nI f) (nI h) z := by
  rcases hr with rfl | rfl
  · refine br_t rfl (dx_node hf (fun a b c => ⟨narrow_b1, K1 (Or.inl ⟨rfl, a, b, c⟩)⟩) (fun q => ⟨narrow_b0, K0 ?_⟩))
    rintro (z | z)
    · exact q z.2
    · exact absurd z.1 (by decide)
  · refine br_f (by decide) (br_c (fun e => dx_node hh (fun a b c => br_f dc_10 (K1 (Or.inr ⟨rfl, e, a, b, c⟩))) (fun q => br_t rfl (K0 ?_))) (fun e => K0 ?_))
    · rintro (z | z)
      · exact absurd z.1 (by decide)
      · exact q z.2.2
    · rintro (z | z)
      · exact absurd z.1 (by decide)
      · exact e z.2.1
/-- the reference's close, once the box is known -/
theorem dy_close {post : Int32 → SY → Prop} {r : Int32} {f h m c d : Nat} (hr : r = 5 ∨ r = 6) (hl : m + 1 < 32) (hf : f < 32) (hh : h < 32) (hc : c ≤ m) (h8 : lr c = 8) (hdc : ld c = nI d) (hlf : lf c = nI h) (hd0 : 0 < d) (hd3 : d ≤ 3) (hb : ∀ j, c < j → j ≤ m → lr j = 8 → ¬ ld j = nI d)
    (K0 : ¬ ((r = 5 ∧ yk f = 2 ∧ yl f = nI h ∧ yr f = lf m) ∨ (r = 6 ∧ lf m = nI fa ∧ yk h = 2 ∧ yl h = nI f ∧ yr h = nI fa)) → post (-6) (dc_Y fa fl ml mb fc (m+1) kc yk yl yr yt lf lr ld la lb yn kF kR kN))
    (K1 : (r = 5 ∧ yk f = 2 ∧ yl f = nI h ∧ yr f = lf m) ∨ (r = 6 ∧ lf m = nI fa ∧ yk h = 2 ∧ yl h = nI f ∧ yr h = nI fa) → post (nI (m + 1)) (dc_Y fa fl ml mb fc (m+1+1) kc yk yl yr yt (upd lf (m+1) (nI f)) (upd lr (m+1) r) (upd ld (m+1) (nI (d-1))) (upd la (m+1) (nI m)) (upd lb (m+1) (-1)) yn kF kR kN)) :
    ∃ g, wY_close_57 post r (nI f) (nI d) (nI fa) (nI fl) (nI ml) (nI mb) (nI fc) (nI (m+1)) (nI kc) yk yl yr yt lf lr ld la lb yn kF kR kN g 0 0 := by
  have wr : (r = 5 ∧ yk f = 2 ∧ yl f = nI h ∧ yr f = lf m) ∨ (r = 6 ∧ lf m = nI fa ∧ yk h = 2 ∧ yl h = nI f ∧ yr h = nI fa) → wY_close_211 post r (nI f) (nI d) (nI fa) (nI fl) (nI ml) (nI mb) (nI fc) (nI (m+1)) (nI kc) yk yl yr yt lf lr ld la lb yn kF kR kN := by
    intro q
    unfold wY_close_211
    rw [nI_pred, dc_s1 hd0]
    exact dy_write (lc := m + 1) (by omega) (K1 q)
  have main : ∀ g j (x : Int32), j ≤ m + 1 → m + 1 - j < g → (c < j → x = nI h) → wY_close_57 post r (nI f) (nI d) (nI fa) (nI fl) (nI ml) (nI mb) (nI fc) (nI (m+1)) (nI kc) yk yl yr yt lf lr ld la lb yn kF kR kN g x (nI j) := by
    intro g
    induction g with
    | zero => intro j x _ h; omega
    | succ g ih =>
      intro j x hj hg hx
      refine pk_le (m + 1) j (fun q => ?_) (fun q => ⟨vp_in_nI (by omega) (by omega), ?_⟩)
      · have ex : x = nI h := hx (by omega)
        subst ex
        rw [nI_pred]
        refine ⟨vp_in_nI (by omega) (by omega), ?_⟩
        rw [nI_clamp (by omega)]
        refine nm_e ?_
        rcases hr with rfl | rfl
        · refine br_t rfl (dy_chk hf (fun e => br_f (by decide) (wr (Or.inl ⟨rfl, e⟩))) (fun e => K0 ?_))
          rintro (z | z)
          · exact e z.2
          · exact absurd z.1 (by decide)
        · have hv : vp_in (nI h) 32 := vp_in_nI hh (by omega)
          refine br_f (by decide) (br_t rfl (And.intro hv ?_))
          rw [nI_clamp (by omega)]
          refine br_c (fun e1 => ⟨hv, br_c (fun e2 => ⟨hv, br_c (fun e3 => br_c (fun e4 => wr (Or.inr ⟨rfl, e4, e1, e2, e3⟩)) (fun e4 => K0 ?_)) (fun e3 => K0 ?_)⟩) (fun e2 => K0 ?_)⟩) (fun e1 => K0 ?_)
          · rintro (z | z)
            · exact absurd z.1 (by decide)
            · exact e4 z.2.1
          · rintro (z | z)
            · exact absurd z.1 (by decide)
            · exact e3 z.2.2.2.2
          · rintro (z | z)
            · exact absurd z.1 (by decide)
            · exact e2 z.2.2.2.1
          · rintro (z | z)
            · exact absurd z.1 (by decide)
            · exact e1 z.2.2.1
      · have hv : vp_in (nI j) 32 := vp_in_nI (by omega) (by omega)
        rw [nI_clamp (by omega)]
        refine br_c (fun e1 => ⟨hv, br_c (fun e2 => ⟨hv, nm_e (nm_r (nI_1 j) (ih (j + 1) _ q (by omega) (fun z => ?_)))⟩) (fun e2 => nm_r (nI_1 j) (ih (j + 1) x q (by omega) (fun z => ?_)))⟩) (fun e1 => nm_r (nI_1 j) (ih (j + 1) x q (by omega) (fun z => ?_)))
        · by_cases e : j = c
          · subst e; exact hlf
          · exact absurd e2 (hb j (by omega) (by omega) e1)
        · by_cases e : j = c
          · subst e; exact absurd hdc e2
          · exact hx (by omega)
        · by_cases e : j = c
          · subst e; exact absurd h8 e1
          · exact hx (by omega)
  exact ⟨m + 2, main (m + 2) 0 0 (Nat.zero_le _) (by omega) (fun z => by omega)⟩
end
theorem i_vc_close {k : Nat} {u : SX} {v : SY} (I : i_Rel k u v) (hk : k + 5 ≤ 2564) (v1 : Int32) (v2 : Int32) : wpX_close (fun r u' => wpY_close (fun r' v' => r' = r ∧ i_Rel (k + 5) u' v') v v1 v2) u v1 v2 := by
  refine dc_el (P := fun u v => wpX_close (fun r u' => wpY_close (fun r' v' => r' = r ∧ i_Rel (k + 5) u' v') v v1 v2) u v1 v2) I ?_
  intro fa fl fc ml mb lc pr ob kc im kf N tr lf lr la lb ld lx lab bp bo nd Q O pl yk yl yr yt yn kF kR kN g
  have g' := g
  obtain ⟨⟨f1, f2, f3, f4, f5, f6, f7⟩, hW, hU, hY, hL, hK⟩ := g'
  have hd : ∀ n, n < lc → ld n = nI (dc_d ld n) := fun n hn => (dc_LN_d hL n hn).1
  by_cases hr : v1 = 5 ∨ v1 = 6
  · rcases pk_ix v2 (n := fc) (by omega) with q | q | ⟨f, hf, rfl⟩
    · exact dx_close_c hr (dx_isF_f (Or.inl q) (br_t rfl (dy_close_c hr (dy_noF_f (Or.inl q) (br_f dc_10 ⟨rfl, dc_mk g⟩)))))
    · exact dx_close_c hr (dx_isF_f (Or.inr q) (br_t rfl (dy_close_c hr (dy_noF_f (Or.inr q) (br_f dc_10 ⟨rfl, dc_mk g⟩)))))
    · refine dx_close_c hr (dx_isF_t hf (by omega) (br_f dc_10 (pk_lt lc ml (fun hlm => pk_eq ob 0 (fun h0 => ?_) (fun h0 => ?_)) (fun hlm => ?_))))
      · refine dy_close_c hr (dy_noF_t hf (by omega) (br_t rfl (br_t (nI_lt hlm (by omega)) (dy_depth (by omega) hd ?_))))
        rw [← hL.2.2.1, h0]
        exact br_t rfl ⟨rfl, dc_mk (by rw [← h0]; exact g)⟩
      · -- there is a box
        have hlc : 0 < lc := by
          by_cases e : lc = 0
          · have := hL.2.2.1
            rw [e] at this
            exact absurd this h0
          · omega
        obtain ⟨m, rfl⟩ : ∃ m, lc = m + 1 := ⟨lc - 1, by omega⟩
        have hob : ob = dc_d ld m := hL.2.2.1
        have him : im = lx m := hL.2.1
        have hl32 : m + 1 ≤ 32 := by omega
        rcases dc_SB_all hl32 hL.1 m (by omega) with s | ⟨c, s1, s2, s3, s4, s5, s6⟩
        · omega
        · rw [s2] at him
          subst him
          obtain ⟨⟨h, hlf, hh⟩, _⟩ := hL.1 c (by omega)
          have hv : vp_in (nI c) 32 := vp_in_nI (by omega) (by omega)
          have ec : (nI c).toNatClampNeg = c := nI_clamp (by omega)
          have hdc : ld c = nI ob := by rw [hd c (by omega), s4, hob]
          have hbt : ∀ j, c < j → j ≤ m → lr j = 8 → ¬ ld j = nI ob := by
            intro j j1 j2 j3 j4
            obtain ⟨_, _, q3⟩ := dc_LL_8 (hL.1 j (by omega)) j3
            obtain ⟨i, rfl⟩ : ∃ i, j = i + 1 := ⟨j - 1, by omega⟩
            have q3' : dc_d ld (i + 1) = dc_d ld i + 1 := q3
            have hi : dc_d ld c ≤ dc_d ld i := by
              by_cases e : c = i
              · subst e; exact Nat.le_refl _
              · exact s6 i (by omega) (by omega)
            rw [hd (i + 1) (by omega)] at j4
            have h3 := (dc_LN_d hL (i + 1) (by omega)).2
            have := dc_inj j4 (by omega) (by omega)
            omega
          have yc : ∀ post : Int32 → SY → Prop, (¬ ((v1 = 5 ∧ yk f = 2 ∧ yl f = nI h ∧ yr f = lf m) ∨ (v1 = 6 ∧ lf m = nI fa ∧ yk h = 2 ∧ yl h = nI f ∧ yr h = nI fa)) → post (-6) (dc_Y fa fl ml mb fc (m+1) kc yk yl yr yt lf lr ld la lb yn kF kR kN)) → ((v1 = 5 ∧ yk f = 2 ∧ yl f = nI h ∧ yr f = lf m) ∨ (v1 = 6 ∧ lf m = nI fa ∧ yk h = 2 ∧ yl h = nI f ∧ yr h = nI fa) → post (nI (m + 1)) (dc_Y fa fl ml mb fc (m+1+1) kc yk yl yr yt (upd lf (m+1) (nI f)) (upd lr (m+1) v1) (upd ld (m+1) (nI (ob-1))) (upd la (m+1) (nI m)) (upd lb (m+1) (-1)) yn kF kR kN)) → wpY_close post (dc_Y fa fl ml mb fc (m+1) kc yk yl yr yt lf lr ld la lb yn kF kR kN) v1 (nI f) := by
            intro post K0 K1
            refine dy_close_c hr (dy_noF_t hf (by omega) (br_t rfl (br_t (nI_lt hlm (by omega)) (dy_depth (by omega) hd ?_))))
            rw [← hL.2.2.1]
            exact br_f (nI_ne0 (by omega) (by omega)) (dy_close hr (by omega) (by omega) (by omega) s1 s3 hdc hlf (by omega) (by omega) hbt K0 K1)
          have yx : ((v1 = 5 ∧ yk f = 2 ∧ yl f = nI h ∧ yr f = lf m) ∨ (v1 = 6 ∧ lf m = nI fa ∧ yk h = 2 ∧ yl h = nI f ∧ yr h = nI fa)) ↔ ((v1 = 5 ∧ N.1 f = 2 ∧ N.2.1 f = nI h ∧ N.2.2.1 f = lf m) ∨ (v1 = 6 ∧ lf m = nI fa ∧ N.1 h = 2 ∧ N.2.1 h = nI f ∧ N.2.2.1 h = nI fa)) := by
            rw [dc_PY_k (Or.inl rfl) hW hY hf, dc_PY_k (Or.inl rfl) hW hY hh]
          rw [nI_pred]
          refine nm_e ⟨hv, vp_in_nI (by omega) (by omega), ?_⟩
          rw [ec, nI_clamp (by omega), hlf]
          refine dx_closes hr (by omega) (by omega) (fun C => br_f dc_10 ⟨hv, ?_⟩) (fun C => br_t rfl ?_)
          · rw [dc_b0]
            refine nm_e ⟨hv, nm_e (nm_r (dc_s1 (by omega)) (dx_write (ob := ob - 1) (im := bp c) (by omega) ?_))⟩
            refine yc _ (fun z => absurd (yx.mpr C) z) (fun _ => ⟨rfl, ?_⟩)
            have hn : dc_NL fa fc N lf lr ld lx lab bp bp (m + 1) (nI f) v1 (nI m) (-1) (ob - 1) (bp c) := by
              refine Or.inr (Or.inr (Or.inr ⟨m, c, rfl, rfl, rfl, s1, s2, rfl, by omega, ?_⟩))
              rcases C with C | C
              · refine Or.inl ⟨C.1, (dc_J_i (by omega) hf).mpr ?_⟩
                rw [hlf]; exact C.2
              · refine Or.inr ⟨C.1, C.2.1, ?_⟩
                rw [hlf]
                exact (dc_J_i (by omega) hh).mpr C.2.2
            have n7 : ¬ v1 = 7 ∧ ¬ v1 = 8 := by
              rcases hr with e | e <;> rw [e] <;> decide
            have hbo : ∀ b, b < m + 1 → lr b = 8 → (¬ upd bo c 0 b = 0 ↔ dc_CI (upd ld (m + 1) (nI (ob - 1))) (m + 1 + 1) b) := by
              intro b hb hb8
              rw [dc_CI_s (by omega) hb]
              by_cases e : b = c
              · subst e
                rw [pk_us]
                exact ⟨fun z => absurd rfl z, fun z => by omega⟩
              · rw [pk_un e, hL.2.2.2.2 b hb hb8]
                refine ⟨fun z => ⟨z, ?_⟩, fun z => z.1⟩
                have F := dc_BF_all hl32 hL.1
                have aI := dc_ci_AN hl32 hL.1 (i := b) m (by omega) (by omega) (fun k k1 k2 => z k k1 (by omega))
                have hb1 := (dc_SB_D hl32 hL.1 hb).2
                have hm1 := dc_SB_D hl32 hL.1 (n := m) (by omega)
                obtain ⟨q1, q2, q3⟩ := dc_LL_8 (hL.1 b hb) hb8
                have hne : ¬ lx b = lx m := by
                  rw [q1, s2]
                  intro z
                  exact e (dc_inj z (by omega) (by omega))
                have := (dc_AN_s F hm1.1 aI hne).2.2
                omega
            have hL' := dc_LN_app (la := la) (lb := lb) (lab' := lab) (bp' := bp) (bo' := upd bo c 0) (pr' := pr) (fun k hk => rfl) (fun k hk => rfl) ⟨f, rfl, hf⟩ (by omega) hL hn (by rw [if_neg n7.1]; rfl) hbo (fun e => absurd e n7.2)
            exact dc_mk (k := k + 5) ⟨⟨f1, f2, f3, f4, by omega, f6, by omega⟩, hW, hU, hY, hL', hK⟩
          · exact yc _ (fun _ => ⟨rfl, dc_mk g⟩) (fun z => absurd (yx.mp z) C)
      · exact dy_close_c hr (dy_noF_t hf (by omega) (br_t rfl (br_f (nI_nlt hlm (by omega)) ⟨rfl, dc_mk g⟩)))
  · have n5 : ¬ v1 = 5 := fun e => hr (Or.inl e)
    have n6 : ¬ v1 = 6 := fun e => hr (Or.inr e)
    exact br_f n5 (br_f n6 (br_f n5 (br_f n6 ⟨rfl, dc_mk g⟩)))
end
section
/-! compile: the relation -/
theorem dc_LL_7 {fa fc : Nat} {N : dc_N} {lf lr la lb ld lx lab bp : Nat → Int32} {n : Nat} (h : dc_LL fa fc N lf lr la lb ld lx lab bp n) (h7 : lr n = 7) : lab n = nI (dc_np lr n) ∧ dc_np lr n < 8 := by
  rcases h.2.2.2 with g | g | g | g
  · exact g.2.2.2.2.2.2
  · exact absurd (g.1.symm.trans h7) (by decide)
  · rcases dc_LI_r g.2.2 with e | e | e | e | e <;> exact absurd (e.symm.trans h7) (by decide)
  · rcases dc_LC_r g with e | e <;> exact absurd (e.symm.trans h7) (by decide)
theorem dc_SM_t {lf lr lab kF kR kN : Nat → Int32} {i q : Nat} {t x f : Int32} (e1 : kF q = lf i) (e2 : kR q = lr i) (e3 : lr i = 7 → kN q = lab i) : dc_SM kF kR kN q t x f ↔ dc_SM lf lr lab i t x f := by
  unfold dc_SM
  rw [e1, e2]
  constructor
  · rintro (⟨a, b, c, d⟩ | h)
    · exact Or.inl ⟨a, b, (e3 b).symm.trans c, d⟩
    · exact Or.inr h
  · rintro (⟨a, b, c, d⟩ | h)
    · exact Or.inl ⟨a, b, (e3 b).trans c, d⟩
    · exact Or.inr h
section
variable {fa fc lc n kc : Nat} {N : dc_N} {Q : dc_O} {lf lr la lb ld lx lab bp nd kF kR kN : Nat → Int32}
theorem dc_KL_0 (F : dc_BF fc lf ld bp (dc_B lr lc)) {S : Nat} (h : dc_OK fa fc lf ld bp (dc_B lr lc) 0 N Q S) {k : Nat} (hk : k < Q.2.2.2.2.2) : dc_KL fa fc N Q k := by
  have hb : ∀ i, i < Q.2.2.2.2.2 → Q.2.2.2.2.1 i = -1 := by
    intro i hi
    have := h.1 i hi
    exact dc_B_0 F this.1 (by have := this.2.1; omega)
  obtain ⟨h1, h2, h3, h4⟩ := h.1 k hk
  refine ⟨h3, ?_⟩
  rcases h4 with ⟨_, q, _⟩ | ⟨t, _, q⟩ | ⟨t, i, j, hi, hj, ei, ej, _, _, q⟩ | ⟨_, i, hi, _, q, _⟩ | q
  · exact absurd (hb k hk) q
  · exact Or.inl ⟨t, q⟩
  · exact Or.inr (Or.inl ⟨t, i, j, hi, hj, ei, ej, q⟩)
  · exact absurd ((hb i (by omega)).trans (hb k hk).symm) q
  · exact Or.inr (Or.inr q)
theorem dc_KP_new (hn : n < lc) (hl : lc ≤ 32) {N0 : dc_N} (H : ∀ n, n < lc → dc_LL fa fc N0 lf lr la lb ld lx lab bp n) (hS : dc_NS la lb nd n) (P : dc_PF fa fc lf ld bp (dc_B lr lc) (lf n) (fun t x f => ∃ i, i < n + 1 ∧ ¬ nd i = 0 ∧ dc_SM lf lr lab i t x f) 0 N Q) (hI : dc_KI nd lf lr kF kR kN kc (n + 1)) : dc_KP fa fc N Q (lf n) kc kF kR kN := by
  have F := dc_BF_all hl H
  obtain ⟨p1, p2, ⟨p, p3, p4, p5, p6⟩, p7⟩ := P
  obtain ⟨i1, i2, i3, i4⟩ := hI
  have hct := dc_OK_ct p2
  obtain ⟨⟨c, c1, c2⟩, _⟩ := H n hn
  obtain ⟨q, q1, q2⟩ := i4 n rfl hS.1
  refine Or.inr ⟨by omega, ⟨q, c, q1, c2, c1, q2.trans c1⟩, by omega, ⟨p, p3, p5⟩, fun k hk => dc_KL_0 F p2 hk, ?_, ?_, ?_⟩
  · intro t x f hm
    rw [p7 t x f hm]
    constructor
    · rintro ⟨i, a, b, s⟩
      obtain ⟨q, r1, r2, r3, r4⟩ := i3 i a b
      exact ⟨q, r1, (dc_SM_t r2 r3 (fun e => r4.trans (dc_LL_7 (H i (by omega)) e).1.symm)).mpr s⟩
    · rintro ⟨q, a, s⟩
      obtain ⟨i, r0, r1, r2, r3, r4⟩ := i2 q a
      exact ⟨i, r0, r1, (dc_SM_t r2 r3 (fun e => r4.trans (dc_LL_7 (H i (by omega)) e).1.symm)).mp s⟩
  · intro q hq e
    obtain ⟨i, r0, r1, r2, r3, r4⟩ := i2 q hq
    have h7 := dc_LL_7 (H i (by omega)) (r3.symm.trans e)
    obtain ⟨⟨c, c1, c2⟩, _⟩ := H i (by omega)
    exact ⟨dc_np lr i, c, h7.2, r4, c2, r2.trans c1⟩
  · intro q q' hq hq' e e' eN
    obtain ⟨i, r0, r1, r2, r3, r4⟩ := i2 q hq
    obtain ⟨i', s0, s1, s2, s3, s4⟩ := i2 q' hq'
    have h7 := dc_LL_7 (H i (by omega)) (r3.symm.trans e)
    have h7' := dc_LL_7 (H i' (by omega)) (s3.symm.trans e')
    have en := dc_inj (r4.symm.trans (eN.trans s4)) (by omega) (by omega)
    have ei : i = i' := by
      rcases Nat.lt_trichotomy i i' with z | z | z
      · have := dc_np_lt (lr := lr) z (r3.symm.trans e)
        omega
      · exact z
      · have := dc_np_lt (lr := lr) z (s3.symm.trans e')
        omega
    rw [r2, s2, ei]
end
theorem i_vc_compile {k : Nat} {u : SX} {v : SY} (I : i_Rel k u v) (hk : k + 5 ≤ 2564) (v1 : Int32) : wpX_compile (fun r u' => wpY_compile (fun r' v' => r' = r ∧ i_Rel (k + 5) u' v') v v1) u v1 := by
  refine dc_el (P := fun u v => wpX_compile (fun r u' => wpY_compile (fun r' v' => r' = r ∧ i_Rel (k + 5) u' v') v v1) u v1) I ?_
  intro fa fl fc ml mb lc pr ob kc im kf N tr lf lr la lb ld lx lab bp bo nd Q O pl yk yl yr yt yn kF kR kN g
  have g' := g
  obtain ⟨⟨f1, f2, f3, f4, f5, f6, f7⟩, hW, hU, hY, hL, hK⟩ := g'
  by_cases h0 : v1 < 0
  · unfold wpX_compile
    exact br_t h0 (br_t rfl (br_t h0 ⟨rfl, dc_mk g⟩))
  · rcases pk_ix v1 (n := lc) (by omega) with q | q | ⟨n, hn, rfl⟩
    · exact absurd q h0
    · unfold wpX_compile
      exact br_f h0 (br_t q (br_t rfl (br_f h0 (br_t q ⟨rfl, dc_mk g⟩))))
    · have hl : lc ≤ 32 := by omega
      have hv : vp_in (nI n) 32 := vp_in_nI (by omega) (by omega)
      have en : (nI n).toNatClampNeg = n := nI_clamp (by omega)
      by_cases hd : dc_d ld n = 0
      · have hG : dc_NG fa fc (N.1, N.2.1, N.2.2.1, 32) := by
          obtain ⟨w1, w2, w3, w4, w5, w6, w7⟩ := hW
          have hv : ∀ n, dc_Vn fc (N.1, N.2.1, N.2.2.1, 32) n → n < fc := by
            intro n v
            rcases v with v | ⟨v1, v2⟩
            · exact v
            · have v2' : n < 32 := v2
              omega
          refine ⟨⟨w1, w2, Nat.le_refl _, (by show 32 ≤ 1024; omega), w5, w6, fun n hn v => ?_⟩, fun n m vn vm a b c d => ?_⟩
          · obtain ⟨q, l, r, el, er, ll, lr, _, _⟩ := w7 n hn (Or.inl (hv n v))
            have := hv n v
            exact ⟨q, l, r, el, er, ll, lr, Or.inl (by omega), Or.inl (by omega)⟩
          · exact hU n m (hv n vn) (hv m vm) (a.trans b.symm) (Or.inl a) c d
        have H : ∀ n, n < lc → dc_LL fa fc (N.1, N.2.1, N.2.2.1, 32) lf lr la lb ld lx lab bp n := hL.1
        have HW : ∀ k, k < lc → dc_WF lr la lb ld k := fun k hk => dc_LL_WF (H k hk)
        refine dx_compile hn hl hd hG H (fun nd' hS hw => ?_) (fun nd' N' O' pl' Q' hS hw P hE => ?_)
        · exact dy_compile hn hl hd HW hS (fun yn' _ => ⟨rfl, dc_mk g⟩) (fun _ _ _ _ _ z => by omega)
        · refine dy_compile hn hl hd HW hS (fun yn' z => by omega) (fun yn' kc' kF' kR' kN' _ hI => ⟨rfl, ?_⟩)
          have hpub : ∀ n, n < fc → N'.1 n = N.1 n ∧ N'.2.1 n = N.2.1 n ∧ N'.2.2.1 n = N.2.2.1 n := fun n hn => hE.2.2 n (Or.inl hn)
          refine dc_mk (k := k + 5) ⟨⟨f1, f2, f3, f4, f5, f6, f7⟩, P.1.1, ?_, ?_, ⟨fun n hn => dc_LL_m hE (H n hn), hL.2⟩, dc_KP_new hn hl H hS P hI⟩
          · intro a b ha hb e1 e2 e3 e4
            obtain ⟨x1, x2, x3⟩ := hpub a ha
            obtain ⟨z1, z2, z3⟩ := hpub b hb
            rw [x1] at e1 e2
            rw [z1] at e1
            rw [x2, z2] at e3
            rw [x3, z3] at e4
            exact hU a b ha hb e1 e2 e3 e4
          · intro a ha
            obtain ⟨x1, x2, x3⟩ := hpub a ha
            rw [x1, x2, x3]
            exact hY a ha
      · have hld : ¬ ld n = 0 := by
          intro e
          apply hd
          unfold dc_d
          rw [e]
          rfl
        unfold wpX_compile
        refine br_f h0 (br_f (nI_ge hn (by omega)) (br_f dc_10 ⟨hv, ?_⟩))
        rw [en]
        refine br_f hld (br_f h0 (br_f (nI_ge hn (by omega)) ⟨hv, ?_⟩))
        rw [en]
        exact br_f hld ⟨rfl, dc_mk g⟩
end
section
/-! truth values -/
def dc_tv (kd nl nr : Nat → Int32) (v : Int32) (t : Nat → Int32) (n : Nat) : Int32 :=
  if kd n = 0 then (if (v >>> (nI n &&& 31)) &&& 1 = 1 then 1 else 0) else if kd n = 1 then 0 else if kd n = 2 then (if t (nl n).toNatClampNeg = 0 then 1 else if t (nr n).toNatClampNeg = 0 then 0 else 1) else (if t (nl n).toNatClampNeg = 0 then 0 else if t (nr n).toNatClampNeg = 0 then 0 else 1)
section
variable {kd nl nr t : Nat → Int32} {v : Int32} {n : Nat}
theorem dc_tv_0 (h : kd n = 0) : dc_tv kd nl nr v t n = if (v >>> (nI n &&& 31)) &&& 1 = 1 then 1 else 0 := if_pos h
theorem dc_tv_1 (h : kd n = 1) : dc_tv kd nl nr v t n = 0 := (if_neg (by rw [h]; decide)).trans (if_pos h)
theorem dc_tv_2 (h : kd n = 2) : dc_tv kd nl nr v t n = if t (nl n).toNatClampNeg = 0 then 1 else if t (nr n).toNatClampNeg = 0 then 0 else 1 := (if_neg (by rw [h]; decide)).trans ((if_neg (by rw [h]; decide)).trans (if_pos h))
theorem dc_tv_3 (h : kd n = 3) : dc_tv kd nl nr v t n = if t (nl n).toNatClampNeg = 0 then 0 else if t (nr n).toNatClampNeg = 0 then 0 else 1 := (if_neg (by rw [h]; decide)).trans ((if_neg (by rw [h]; decide)).trans (if_neg (by rw [h]; decide)))
theorem dc_tv_b : dc_tv kd nl nr v t n = 0 ∨ dc_tv kd nl nr v t n = 1 := by
  unfold dc_tv
  split
  · split
    · exact Or.inr rfl
    · exact Or.inl rfl
  · split
    · exact Or.inl rfl
    · split
      · split
        · exact Or.inr rfl
        · split
          · exact Or.inl rfl
          · exact Or.inr rfl
      · split
        · exact Or.inl rfl
        · split
          · exact Or.inl rfl
          · exact Or.inr rfl
theorem dc_tv_n : vp_nar .boolean (dc_tv kd nl nr v t n) = dc_tv kd nl nr v t n := by
  rcases dc_tv_b (kd := kd) (nl := nl) (nr := nr) (v := v) (t := t) (n := n) with h | h <;> rw [h]
  · exact dc_b0
  · exact dc_b1
end
/-- what kind a formula is -/
theorem dc_kinds {fa fc : Nat} {N : dc_N} (hW : dc_NW fa fc N) {n : Nat} (hv : dc_Vn fc N n) : N.1 n = 0 ∨ N.1 n = 1 ∨ ((N.1 n = 2 ∨ N.1 n = 3) ∧ ∃ l r : Nat, N.2.1 n = nI l ∧ N.2.2.1 n = nI r ∧ l < n ∧ r < n ∧ dc_Vn fc N l ∧ dc_Vn fc N r) := by
  rcases Nat.lt_trichotomy n fa with z | z | z
  · exact Or.inl (hW.2.2.2.2.1 n z).1
  · subst z; exact Or.inr (Or.inl hW.2.2.2.2.2.1.1)
  · exact Or.inr (Or.inr (hW.2.2.2.2.2.2 n z hv))
theorem dc_tv_c {fa fc : Nat} {N : dc_N} (hW : dc_NW fa fc N) {n : Nat} (hv : dc_Vn fc N n) {v : Int32} {t t' : Nat → Int32} (h : ∀ l, l < n → t' l = t l) : dc_tv N.1 N.2.1 N.2.2.1 v t' n = dc_tv N.1 N.2.1 N.2.2.1 v t n := by
  have hn := dc_Vn_lt hW hv
  rcases dc_kinds hW hv with k | k | ⟨k, l, r, el, er, hl, hr, _, _⟩
  · rw [dc_tv_0 k, dc_tv_0 k]
  · rw [dc_tv_1 k, dc_tv_1 k]
  · have e1 : t' (N.2.1 n).toNatClampNeg = t (N.2.1 n).toNatClampNeg := by rw [el, nI_clamp (by omega)]; exact h l hl
    have e2 : t' (N.2.2.1 n).toNatClampNeg = t (N.2.2.1 n).toNatClampNeg := by rw [er, nI_clamp (by omega)]; exact h r hr
    rcases k with k | k
    · rw [dc_tv_2 k, dc_tv_2 k, e1, e2]
    · rw [dc_tv_3 k, dc_tv_3 k, e1, e2]
def dc_TI (fc : Nat) (N : dc_N) (v : Int32) (t : Nat → Int32) (n : Nat) : Prop := ∀ m, m < n → dc_Vn fc N m → t m = dc_tv N.1 N.2.1 N.2.2.1 v t m
theorem dc_TI_s {fa fc : Nat} {N : dc_N} (hW : dc_NW fa fc N) {v : Int32} {t : Nat → Int32} {n : Nat} (hv : dc_Vn fc N n) (h : dc_TI fc N v t n) : dc_TI fc N v (upd t n (dc_tv N.1 N.2.1 N.2.2.1 v t n)) (n + 1) := by
  intro m hm hvm
  by_cases e : m = n
  · subst e
    rw [pk_us]
    exact (dc_tv_c hW hv (fun l hl => pk_un (by omega))).symm
  · rw [pk_un e, h m (by omega) hvm]
    exact (dc_tv_c hW hvm (fun l hl => pk_un (by omega))).symm
theorem dc_tv_y {fa fc : Nat} {N : dc_N} {yk yl yr : Nat → Int32} (hW : dc_NW fa fc N) (hY : dc_PY fa fc N yk yl yr) {v : Int32} {t : Nat → Int32} {n : Nat} (hn : n < fc) : dc_tv yk yl yr v t n = dc_tv N.1 N.2.1 N.2.2.1 v t n := by
  obtain ⟨q1, q2⟩ := hY n hn
  by_cases h : fa < n
  · obtain ⟨q3, q4⟩ := q2 h
    unfold dc_tv
    rw [q1, q3, q4]
  · rcases Nat.lt_or_eq_of_le (Nat.le_of_not_lt h) with z | z
    · have k := (hW.2.2.2.2.1 n z).1
      rw [dc_tv_0 k, dc_tv_0 (q1.trans k)]
    · subst z
      have k := hW.2.2.2.2.2.1.1
      rw [dc_tv_1 k, dc_tv_1 (q1.trans k)]
/-- both sweeps agree -/
theorem dc_agree {fa fc : Nat} {N : dc_N} {yk yl yr : Nat → Int32} (hW : dc_NW fa fc N) (hY : dc_PY fa fc N yk yl yr) {v : Int32} {t y : Nat → Int32} {e : Nat} (ht : dc_TI fc N v t e) (hy : ∀ m, m < fc → y m = dc_tv yk yl yr v y m) : ∀ m, m < e → m < fc → t m = y m := by
  intro m
  induction m using Nat.strongRecOn with
  | _ m ih =>
    intro h1 h2
    rw [ht m h1 (Or.inl h2), hy m h2, dc_tv_y hW hY h2]
    exact dc_tv_c hW (Or.inl h2) (fun l hl => ih l hl (by omega) (by omega))
section
variable {fa fl fc ml mb lc pr ob kc : Nat} {im kf : Int32} {N : dc_N} {tr lf lr la lb ld lx lab bp bo nd pl : Nat → Int32} {Q O : dc_O} {yk yl yr yt yn kF kR kN : Nat → Int32} {v : Int32}
theorem dx_truth {post : Int32 → Prop} {n : Nat} (hW : dc_NW fa fc N) (hv : dc_Vn fc N n) (K : post (dc_tv N.1 N.2.1 N.2.2.1 v tr n)) : wpX_truthOf post (dc_X fa fl fc ml mb lc pr ob im kf N tr lf lr la lb ld lx lab bp bo nd Q O pl) (nI n) v := by
  have hn := dc_Vn_lt hW hv
  have hi : vp_in (nI n) 1024 := vp_in_nI hn (by omega)
  have en : (nI n).toNatClampNeg = n := nI_clamp (by omega)
  refine ⟨hi, ?_⟩
  rw [en]
  rcases dc_kinds hW hv with k | k | ⟨k, l, r, el, er, hl, hr, vl, vr⟩
  · rw [dc_tv_0 k] at K
    refine nm_r k (br_t rfl (br_c (fun c => ?_) (fun c => ?_)))
    · rw [if_pos c] at K; exact K
    · rw [if_neg c] at K; exact K
  · rw [dc_tv_1 k] at K
    exact nm_r k (br_f (by decide) (br_t rfl K))
  · have hl' : vp_in (N.2.1 n) 1024 := by rw [el]; exact vp_in_nI (by omega) (by omega)
    have hr' : vp_in (N.2.2.1 n) 1024 := by rw [er]; exact vp_in_nI (by omega) (by omega)
    rcases k with k | k
    · rw [dc_tv_2 k] at K
      refine nm_r k (br_f (by decide) (br_f (by decide) ⟨hi, hl', nm_e ⟨hi, hr', nm_e (br_t rfl (br_c (fun a => ?_) (fun a => br_c (fun b => ?_) (fun b => ?_))))⟩⟩))
      · rw [if_pos a] at K; exact K
      · rw [if_neg a, if_pos b] at K; exact K
      · rw [if_neg a, if_neg b] at K; exact K
    · rw [dc_tv_3 k] at K
      refine nm_r k (br_f (by decide) (br_f (by decide) ⟨hi, hl', nm_e ⟨hi, hr', nm_e (br_f (by decide) (br_c (fun a => ?_) (fun a => br_c (fun b => ?_) (fun b => ?_))))⟩⟩))
      · rw [if_pos a] at K; exact K
      · rw [if_neg a, if_pos b] at K; exact K
      · rw [if_neg a, if_neg b] at K; exact K
theorem dx_eval {post : SX → Prop} {i0 e : Nat} (hW : dc_NW fa fc N) (he : e ≤ 1024) (hie : i0 ≤ e) (hV : ∀ n, i0 ≤ n → n < e → dc_Vn fc N n) (h0 : dc_TI fc N v tr i0) (K : ∀ tr', dc_TI fc N v tr' e → post (dc_X fa fl fc ml mb lc pr ob im kf N tr' lf lr la lb ld lx lab bp bo nd Q O pl)) : wpX_evaluateRange post (dc_X fa fl fc ml mb lc pr ob im kf N tr lf lr la lb ld lx lab bp bo nd Q O pl) (nI i0) (nI e) v := by
  have main : ∀ (g i : Nat) (tr : Nat → Int32), i0 ≤ i → i ≤ e → e - i < g → dc_TI fc N v tr i → wX_evaluateRange_3 post (nI e) v 7 8 0 1 2 3 4 5 6 7 8 9 32 1024 (nI fa) (nI fl) (nI fc) (nI N.2.2.2) (nI ml) (nI mb) (nI lc) (nI pr) (nI ob) im 256 (nI Q.2.2.2.2.2) kf (nI O.2.2.2.2.2) g (nI i) N.1 N.2.1 N.2.2.1 tr lf lr la lb ld lx lab bp bo nd Q.1 Q.2.1 Q.2.2.1 Q.2.2.2.1 Q.2.2.2.2.1 O.1 O.2.1 O.2.2.1 O.2.2.2.1 O.2.2.2.2.1 pl := by
    intro g
    induction g with
    | zero => intro i tr _ _ h; omega
    | succ g ih =>
      intro i tr hi0 hi hg h
      refine pk_le e i (fun q => ?_) (fun q => ?_)
      · have z : i = e := by omega
        subst z; exact K tr h
      · have hv := hV i hi0 q
        refine dx_truth hW hv ⟨vp_in_nI (by omega) (by omega), ?_⟩
        rw [dc_tv_n, nI_clamp (by omega)]
        exact nm_e (nm_r (nI_1 i) (ih (i + 1) _ (by omega) q (by omega) (dc_TI_s hW hv h)))
  exact Exists.intro (e + 1) (main (e + 1) i0 tr (Nat.le_refl _) hie (by omega) h0)
theorem dy_value {post : Int32 → SY → Prop} {f : Nat} (hW : dc_NW fa fc N) (hY : dc_PY fa fc N yk yl yr) (hf : f < fc)
    (K : ∀ yt', (∀ m, m < fc → yt' m = dc_tv yk yl yr v yt' m) → (yt' f = 0 → post 0 (dc_Y fa fl ml mb fc lc kc yk yl yr yt' lf lr ld la lb yn kF kR kN)) ∧ (¬ yt' f = 0 → post 1 (dc_Y fa fl ml mb fc lc kc yk yl yr yt' lf lr ld la lb yn kF kR kN))) : wpY_value post (dc_Y fa fl ml mb fc lc kc yk yl yr yt lf lr ld la lb yn kF kR kN) (nI f) v := by
  have hc : fc ≤ 32 := hW.2.1
  have main : ∀ (g i : Nat) (yt : Nat → Int32), i ≤ fc → fc - i < g → (∀ m, m < i → yt m = dc_tv yk yl yr v yt m) → wY_value_12 post (nI f) v (nI fa) (nI fl) (nI ml) (nI mb) (nI fc) (nI lc) (nI kc) g (nI i) yk yl yr yt lf lr ld la lb yn kF kR kN := by
    intro g
    induction g with
    | zero => intro i yt _ h; omega
    | succ g ih =>
      intro i yt hi hg h
      refine pk_le fc i (fun q => ⟨vp_in_nI (by omega) (by omega), ?_⟩) (fun q => ?_)
      · have z : i = fc := by omega
        subst z
        rw [nI_clamp (by omega)]
        exact K yt h
      · have hv : vp_in (nI i) 32 := vp_in_nI (by omega) (by omega)
        have ei : (nI i).toNatClampNeg = i := nI_clamp (by omega)
        have hVi : dc_Vn fc N i := Or.inl q
        -- the step: the value is stored
        have st : ∀ x : Int32, dc_tv yk yl yr v yt i = x → ∀ x3, x3 = nI i + 1 → wY_value_12 post (nI f) v (nI fa) (nI fl) (nI ml) (nI mb) (nI fc) (nI lc) (nI kc) g x3 yk yl yr (upd yt i x) lf lr ld la lb yn kF kR kN := by
          intro x ex
          refine nm_r (nI_1 i) (ih (i + 1) _ q (by omega) (fun m hm => ?_))
          by_cases z : m = i
          · subst z
            rw [pk_us, dc_tv_y hW hY q, dc_tv_c hW hVi (t := yt) (fun l hl => pk_un (by omega)), ← dc_tv_y hW hY q]
            exact ex.symm
          · rw [pk_un z, h m (by omega), dc_tv_y hW hY (by omega), dc_tv_y hW hY (by omega)]
            exact (dc_tv_c hW (Or.inl (by omega)) (fun l hl => pk_un (by omega))).symm
        have q1 := (hY i q).1
        refine ⟨hv, ?_⟩
        rw [ei, dc_b0, dc_b1]
        rcases dc_kinds hW hVi with k | k | ⟨k, l, r, el, er, hl, hr, vl, vr⟩
        · have k' := q1.trans k
          have e0 := dc_tv_0 (kd := yk) (nl := yl) (nr := yr) (v := v) (t := yt) k'
          refine br_t k' (br_c (fun c => ⟨hv, nm_e (st 1 ?_)⟩) (fun c => ⟨hv, nm_e (st 0 ?_)⟩))
          · rw [e0, if_pos c]
          · rw [e0, if_neg c]
        · have k' := q1.trans k
          exact br_f (by rw [k']; decide) ⟨hv, br_t k' ⟨hv, nm_e (st 0 (dc_tv_1 k'))⟩⟩
        · have hfa : fa < i := by
            rcases Nat.lt_trichotomy i fa with z | z | z
            · have := (hW.2.2.2.2.1 i z).1
              rcases k with k | k <;> exact absurd (this.symm.trans k) (by decide)
            · subst z
              have := hW.2.2.2.2.2.1.1
              rcases k with k | k <;> exact absurd (this.symm.trans k) (by decide)
            · exact z
          obtain ⟨y1, y2⟩ := (hY i q).2 hfa
          have hl' : vp_in (yl i) 32 := by rw [y1, el]; exact vp_in_nI (by omega) (by omega)
          have hr' : vp_in (yr i) 32 := by rw [y2, er]; exact vp_in_nI (by omega) (by omega)
          rcases k with k | k
          · have k' := q1.trans k
            have e2 := dc_tv_2 (kd := yk) (nl := yl) (nr := yr) (v := v) (t := yt) k'
            refine br_f (by rw [k']; decide) ⟨hv, br_f (by rw [k']; decide) ⟨hv, br_t k' ⟨hv, hl', br_c (fun a => ⟨hv, nm_e (st 1 ?_)⟩) (fun a => ⟨hv, hr', br_c (fun b => ⟨hv, nm_e (st 0 ?_)⟩) (fun b => ⟨hv, nm_e (st 1 ?_)⟩)⟩)⟩⟩⟩
            · rw [e2, if_pos a]
            · rw [e2, if_neg a, if_pos b]
            · rw [e2, if_neg a, if_neg b]
          · have k' := q1.trans k
            have e2 := dc_tv_3 (kd := yk) (nl := yl) (nr := yr) (v := v) (t := yt) k'
            refine br_f (by rw [k']; decide) ⟨hv, br_f (by rw [k']; decide) ⟨hv, br_f (by rw [k']; decide) ⟨hv, hl', br_c (fun a => ⟨hv, nm_e (st 0 ?_)⟩) (fun a => ⟨hv, hr', br_c (fun b => ⟨hv, nm_e (st 0 ?_)⟩) (fun b => ⟨hv, nm_e (st 1 ?_)⟩)⟩)⟩⟩⟩
            · rw [e2, if_pos a]
            · rw [e2, if_neg a, if_pos b]
            · rw [e2, if_neg a, if_neg b]
  unfold wpY_value
  refine dy_noF_t hf hc ?_
  exact br_t rfl (Exists.intro (fc + 1) (main (fc + 1) 0 yt (Nat.zero_le _) (by omega) (fun m hm => absurd hm (Nat.not_lt_zero _))))
end
theorem i_vc_value {k : Nat} {u : SX} {v : SY} (I : i_Rel k u v) (hk : k + 5 ≤ 2564) (v1 : Int32) (v2 : Int32) : wpX_value (fun r u' => wpY_value (fun r' v' => r' = r ∧ i_Rel (k + 5) u' v') v v1 v2) u v1 v2 := by
  refine dc_el (P := fun u v => wpX_value (fun r u' => wpY_value (fun r' v' => r' = r ∧ i_Rel (k + 5) u' v') v v1 v2) u v1 v2) I ?_
  intro fa fl fc ml mb lc pr ob kc im kf N tr lf lr la lb ld lx lab bp bo nd Q O pl yk yl yr yt yn kF kR kN g
  have g' := g
  obtain ⟨⟨f1, f2, f3, f4, f5, f6, f7⟩, hW, hU, hY, hL, hK⟩ := g'
  unfold wpX_value
  rcases pk_ix v1 (n := fc) (by omega) with q | q | ⟨f, hf, rfl⟩
  · refine dx_isF_f (Or.inl q) ?_
    refine br_t rfl ?_
    unfold wpY_value
    refine dy_noF_f (Or.inl q) ?_
    exact br_f dc_10 ⟨rfl, dc_mk g⟩
  · refine dx_isF_f (Or.inr q) ?_
    refine br_t rfl ?_
    unfold wpY_value
    refine dy_noF_f (Or.inr q) ?_
    exact br_f dc_10 ⟨rfl, dc_mk g⟩
  · refine dx_isF_t hf (by omega) ?_
    refine br_f dc_10 ?_
    rw [nI_1]
    refine dx_eval (i0 := 0) (e := f + 1) hW (by omega) (Nat.zero_le _) (fun n _ hn => Or.inl (by omega)) (fun m hm => absurd hm (Nat.not_lt_zero _)) (fun tr' ht => ⟨vp_in_nI (by omega) (by omega), ?_⟩)
    rw [nI_clamp (by omega)]
    refine br_c (fun z => ?_) (fun z => ?_)
    · refine dy_value hW hY hf (fun yt' hy => ?_)
      have e := dc_agree hW hY ht hy f (by omega) hf
      exact br_t (e.symm.trans z) ⟨rfl, dc_mk g⟩
    · refine dy_value hW hY hf (fun yt' hy => ?_)
      have e := dc_agree hW hY ht hy f (by omega) hf
      exact br_f (by rw [← e]; exact z) ⟨rfl, dc_mk g⟩
end
section
/-! the kept proof: keptPremise and audit -/
section
variable {fa fl fc ml mb lc pr ob kc : Nat} {im kf : Int32} {N : dc_N} {tr lf lr la lb ld lx lab bp bo nd pl : Nat → Int32} {Q O : dc_O} {yk yl yr yt yn kF kR kN : Nat → Int32}
theorem dx_kp {post : Int32 → Prop} {p : Int32} (hc : Q.2.2.2.2.2 ≤ 256) (K1 : ∀ j, j < Q.2.2.2.2.2 → Q.1 j = 1 → Q.2.2.1 j = p → post (Q.2.1 j)) (K0 : (∀ j, j < Q.2.2.2.2.2 → ¬ (Q.1 j = 1 ∧ Q.2.2.1 j = p)) → post (-1)) : ∃ n, wX_keptPremise_21 post p 7 8 0 1 2 3 4 5 6 7 8 9 32 1024 (nI fa) (nI fl) (nI fc) (nI N.2.2.2) (nI ml) (nI mb) (nI lc) (nI pr) (nI ob) im 256 (nI Q.2.2.2.2.2) kf (nI O.2.2.2.2.2) N.1 N.2.1 N.2.2.1 tr lf lr la lb ld lx lab bp bo nd Q.1 Q.2.1 Q.2.2.1 Q.2.2.2.1 Q.2.2.2.2.1 O.1 O.2.1 O.2.2.1 O.2.2.2.1 O.2.2.2.2.1 pl n 0 := by
  have main : ∀ g k, k ≤ Q.2.2.2.2.2 → Q.2.2.2.2.2 - k < g → (∀ j, j < k → ¬ (Q.1 j = 1 ∧ Q.2.2.1 j = p)) → wX_keptPremise_21 post p 7 8 0 1 2 3 4 5 6 7 8 9 32 1024 (nI fa) (nI fl) (nI fc) (nI N.2.2.2) (nI ml) (nI mb) (nI lc) (nI pr) (nI ob) im 256 (nI Q.2.2.2.2.2) kf (nI O.2.2.2.2.2) N.1 N.2.1 N.2.2.1 tr lf lr la lb ld lx lab bp bo nd Q.1 Q.2.1 Q.2.2.1 Q.2.2.2.1 Q.2.2.2.2.1 O.1 O.2.1 O.2.2.1 O.2.2.2.1 O.2.2.2.2.1 pl g (nI k) := by
    intro g
    induction g with
    | zero => intro k _ h; omega
    | succ g ih =>
      intro k hk hg h
      refine pk_le Q.2.2.2.2.2 k (fun q => K0 (fun j hj => h j (by omega))) (fun q => ?_)
      have hv : vp_in (nI k) 256 := vp_in_nI (by omega) (by omega)
      have nx : ¬ (Q.1 k = 1 ∧ Q.2.2.1 k = p) → ∀ x, x = nI k + 1 → wX_keptPremise_21 post p 7 8 0 1 2 3 4 5 6 7 8 9 32 1024 (nI fa) (nI fl) (nI fc) (nI N.2.2.2) (nI ml) (nI mb) (nI lc) (nI pr) (nI ob) im 256 (nI Q.2.2.2.2.2) kf (nI O.2.2.2.2.2) N.1 N.2.1 N.2.2.1 tr lf lr la lb ld lx lab bp bo nd Q.1 Q.2.1 Q.2.2.1 Q.2.2.2.1 Q.2.2.2.2.1 O.1 O.2.1 O.2.2.1 O.2.2.2.1 O.2.2.2.2.1 pl g x := by
        intro hn
        refine nm_r (nI_1 k) (ih (k + 1) q (by omega) (fun j hj => ?_))
        by_cases e : j = k
        · subst e; exact hn
        · exact h j (by omega)
      refine ⟨hv, ?_⟩
      rw [nI_clamp (by omega)]
      exact br_c (fun e1 => ⟨hv, br_c (fun e2 => ⟨hv, K1 k q e1 e2⟩) (fun e2 => nx (fun z => e2 z.2))⟩) (fun e1 => nx (fun z => e1 z.1))
  exact ⟨Q.2.2.2.2.2 + 1, main (Q.2.2.2.2.2 + 1) 0 (Nat.zero_le _) (by omega) (fun j hj => absurd hj (Nat.not_lt_zero _))⟩
theorem dy_kp {post : Int32 → Prop} {p : Int32} (hc : kc ≤ 32) (K1 : ∀ j, j < kc → kR j = 7 → kN j = p → post (kF j)) (K0 : (∀ j, j < kc → ¬ (kR j = 7 ∧ kN j = p)) → post (-1)) : wpY_keptPremise post (dc_Y fa fl ml mb fc lc kc yk yl yr yt lf lr ld la lb yn kF kR kN) p := by
  have main : ∀ g k, k ≤ kc → kc - k < g → (∀ j, j < k → ¬ (kR j = 7 ∧ kN j = p)) → wY_keptPremise_2 post p (nI fa) (nI fl) (nI ml) (nI mb) (nI fc) (nI lc) (nI kc) yk yl yr yt lf lr ld la lb yn kF kR kN g (nI k) := by
    intro g
    induction g with
    | zero => intro k _ h; omega
    | succ g ih =>
      intro k hk hg h
      refine pk_le kc k (fun q => K0 (fun j hj => h j (by omega))) (fun q => ?_)
      have hv : vp_in (nI k) 32 := vp_in_nI (by omega) (by omega)
      have nx : ¬ (kR k = 7 ∧ kN k = p) → ∀ x, x = nI k + 1 → wY_keptPremise_2 post p (nI fa) (nI fl) (nI ml) (nI mb) (nI fc) (nI lc) (nI kc) yk yl yr yt lf lr ld la lb yn kF kR kN g x := by
        intro hn
        refine nm_r (nI_1 k) (ih (k + 1) q (by omega) (fun j hj => ?_))
        by_cases e : j = k
        · subst e; exact hn
        · exact h j (by omega)
      refine ⟨hv, ?_⟩
      rw [nI_clamp (by omega)]
      exact br_c (fun e1 => ⟨hv, br_c (fun e2 => ⟨hv, K1 k q e1 e2⟩) (fun e2 => nx (fun z => e2 z.2))⟩) (fun e1 => nx (fun z => e1 z.1))
  exact ⟨kc + 1, main (kc + 1) 0 (Nat.zero_le _) (by omega) (fun j hj => absurd hj (Nat.not_lt_zero _))⟩
end
theorem i_vc_keptPremise {k : Nat} {u : SX} {v : SY} (I : i_Rel k u v) (hk : k + 5 ≤ 2564) (v1 : Int32) : wpX_keptPremise (fun r => wpY_keptPremise (fun r' => r' = r ∧ i_Rel (k + 5) u v) v v1) u v1 := by
  refine dc_el (P := fun u v => wpX_keptPremise (fun r => wpY_keptPremise (fun r' => r' = r ∧ i_Rel (k + 5) u v) v v1) u v1) I ?_
  intro fa fl fc ml mb lc pr ob kc im kf N tr lf lr la lb ld lx lab bp bo nd Q O pl yk yl yr yt yn kF kR kN g
  have g' := g
  obtain ⟨_, hW, hU, hY, hL, hK⟩ := g'
  rcases hK with ⟨a, b⟩ | ⟨h1, ⟨q, c, q1, q2, q3, q4⟩, h3, h4, h5, h6, h7, h8⟩
  · refine br_t (by rw [b]; exact dc_n1) (dy_kp (by omega) (fun j hj => by omega) (fun _ => ⟨rfl, dc_mk g⟩))
  · have hc := hW.2.1
    have hkf : ¬ kf < 0 := by rw [q3]; exact nI_pos (by omega)
    have none : (∀ p : Nat, p < 8 → ¬ v1 = nI p) → ∀ r, r = (-1 : Int32) → wpY_keptPremise (fun r' => r' = r ∧ i_Rel (k + 5) (dc_X fa fl fc ml mb lc pr ob im kf N tr lf lr la lb ld lx lab bp bo nd Q O pl) (dc_Y fa fl ml mb fc lc kc yk yl yr yt lf lr ld la lb yn kF kR kN)) (dc_Y fa fl ml mb fc lc kc yk yl yr yt lf lr ld la lb yn kF kR kN) v1 := by
      intro hn r er
      refine dy_kp h1 (fun j hj e1 e2 => ?_) (fun _ => ⟨er.symm, dc_mk g⟩)
      obtain ⟨p, _, p1, p2, _⟩ := h7 j hj e1
      exact absurd (e2.symm.trans p2) (hn p p1)
    refine br_f hkf (br_c (fun h0 => none (fun p hp e => ?_) _ rfl) (fun h0 => br_c (fun h8' => ?_) (fun h8' => none (fun p hp e => ?_) _ rfl)))
    · rw [e] at h0; exact nI_pos (by omega) h0
    · refine dx_kp h3 (fun j hj e1 e2 => ?_) (fun hno => ?_)
      · obtain ⟨q', r1, r2⟩ := (h6 1 v1 (Q.2.1 j) (Or.inl rfl)).mp ⟨j, hj, e1, fun _ => ⟨e2, rfl⟩⟩
        have s : kR q' = 7 ∧ kN q' = v1 ∧ kF q' = Q.2.1 j := by
          rcases r2 with ⟨_, a⟩ | ⟨a, _⟩ | ⟨a, _⟩ | ⟨a, _⟩ | ⟨a, _⟩
          · exact a
          all_goals exact absurd a (by decide)
        refine dy_kp h1 (fun i hi d1 d2 => ⟨?_, dc_mk g⟩) (fun hno => absurd ⟨s.1, s.2.1⟩ (hno q' r1))
        exact (h8 i q' hi r1 d1 s.1 (d2.trans s.2.1.symm)).trans s.2.2
      · refine dy_kp h1 (fun i hi d1 d2 => ?_) (fun _ => ⟨rfl, dc_mk g⟩)
        obtain ⟨j, hj, m1, m2⟩ := (h6 1 v1 (kF i) (Or.inl rfl)).mpr ⟨i, hi, Or.inl ⟨rfl, d1, d2, rfl⟩⟩
        exact absurd ⟨m1, (m2 rfl).1⟩ (hno j hj)
    · rw [e] at h8'
      exact h8' (nI_lt (b := 8) hp (by omega))
/-! audit -/
def dc_bad (P S t x : Int32) : Prop :=
  (t = 1 ∧ (P >>> (x &&& 31)) &&& 1 = 0) ∨ (t = 6 ∧ S &&& 1 = 0) ∨ (t = 7 ∧ S &&& 2 = 0) ∨ (t = 8 ∧ S &&& 4 = 0) ∨ (t = 9 ∧ S &&& 8 = 0)
def dc_badY (P S : Int32) (kR kN : Nat → Int32) (q : Nat) : Prop :=
  (kR q = 7 ∧ (P >>> (kN q &&& 31)) &&& 1 = 0) ∨ (kR q = 6 ∧ S &&& 1 = 0) ∨ (kR q = 3 ∧ S &&& 2 = 0) ∨ (kR q = 4 ∧ S &&& 4 = 0) ∨ (kR q = 2 ∧ S &&& 8 = 0)
theorem dc_bad_t {P S t x : Int32} (h : dc_bad P S t x) : dc_MT t := by
  rcases h with h | h | h | h | h
  · exact Or.inl h.1
  · exact Or.inr (Or.inl h.1)
  · exact Or.inr (Or.inr (Or.inl h.1))
  · exact Or.inr (Or.inr (Or.inr (Or.inl h.1)))
  · exact Or.inr (Or.inr (Or.inr (Or.inr h.1)))
theorem dc_bad_iff {P S : Int32} {Q : dc_O} {kc : Nat} {kF kR kN : Nat → Int32} (h6 : ∀ t x f, dc_MT t → (dc_HM Q Q.2.2.2.2.2 t x f ↔ ∃ q, q < kc ∧ dc_SM kF kR kN q t x f)) : (∃ k, k < Q.2.2.2.2.2 ∧ dc_bad P S (Q.1 k) (Q.2.2.1 k)) ↔ ∃ q, q < kc ∧ dc_badY P S kR kN q := by
  constructor
  · rintro ⟨k, hk, b⟩
    obtain ⟨q, hq, s⟩ := (h6 (Q.1 k) (Q.2.2.1 k) (Q.2.1 k) (dc_bad_t b)).mp ⟨k, hk, rfl, fun _ => ⟨rfl, rfl⟩⟩
    refine ⟨q, hq, ?_⟩
    rcases s with ⟨t, a, b1, _⟩ | ⟨t, a⟩ | ⟨t, a⟩ | ⟨t, a⟩ | ⟨t, a⟩ <;> rcases b with ⟨t', z⟩ | ⟨t', z⟩ | ⟨t', z⟩ | ⟨t', z⟩ | ⟨t', z⟩
    · refine Or.inl ⟨a, ?_⟩
      rw [b1]; exact z
    all_goals first | exact absurd (t.symm.trans t') (by decide) | skip
    · exact Or.inr (Or.inl ⟨a, z⟩)
    · exact Or.inr (Or.inr (Or.inl ⟨a, z⟩))
    · exact Or.inr (Or.inr (Or.inr (Or.inl ⟨a, z⟩)))
    · exact Or.inr (Or.inr (Or.inr (Or.inr ⟨a, z⟩)))
  · rintro ⟨q, hq, b⟩
    rcases b with ⟨a, z⟩ | ⟨a, z⟩ | ⟨a, z⟩ | ⟨a, z⟩ | ⟨a, z⟩
    · obtain ⟨k, hk, m1, m2⟩ := (h6 1 (kN q) (kF q) (Or.inl rfl)).mpr ⟨q, hq, Or.inl ⟨rfl, a, rfl, rfl⟩⟩
      refine ⟨k, hk, Or.inl ⟨m1, ?_⟩⟩
      rw [(m2 rfl).1]; exact z
    · obtain ⟨k, hk, m1, m2⟩ := (h6 6 0 0 (Or.inr (Or.inl rfl))).mpr ⟨q, hq, Or.inr (Or.inl ⟨rfl, a⟩)⟩
      exact ⟨k, hk, Or.inr (Or.inl ⟨m1, z⟩)⟩
    · obtain ⟨k, hk, m1, m2⟩ := (h6 7 0 0 (Or.inr (Or.inr (Or.inl rfl)))).mpr ⟨q, hq, Or.inr (Or.inr (Or.inl ⟨rfl, a⟩))⟩
      exact ⟨k, hk, Or.inr (Or.inr (Or.inl ⟨m1, z⟩))⟩
    · obtain ⟨k, hk, m1, m2⟩ := (h6 8 0 0 (Or.inr (Or.inr (Or.inr (Or.inl rfl))))).mpr ⟨q, hq, Or.inr (Or.inr (Or.inr (Or.inl ⟨rfl, a⟩)))⟩
      exact ⟨k, hk, Or.inr (Or.inr (Or.inr (Or.inl ⟨m1, z⟩)))⟩
    · obtain ⟨k, hk, m1, m2⟩ := (h6 9 0 0 (Or.inr (Or.inr (Or.inr (Or.inr rfl))))).mpr ⟨q, hq, Or.inr (Or.inr (Or.inr (Or.inr ⟨rfl, a⟩)))⟩
      exact ⟨k, hk, Or.inr (Or.inr (Or.inr (Or.inr ⟨m1, z⟩)))⟩
section
variable {fa fl fc ml mb lc pr ob kc : Nat} {im kf : Int32} {N : dc_N} {tr lf lr la lb ld lx lab bp bo nd pl : Nat → Int32} {Q O : dc_O} {yk yl yr yt yn kF kR kN : Nat → Int32}
/-- the test of a formula that is known -/
theorem dx_nodeI {post : Int32 → Prop} {k f a b : Int32} (hW : dc_NW fa fc N) (h : dc_I fc N k f a b) (K : post 1) : wpX_isNode post (dc_X fa fl fc ml mb lc pr ob im kf N tr lf lr la lb ld lx lab bp bo nd Q O pl) f k a b := by
  obtain ⟨n, rfl, v, h1, h2, h3⟩ := h
  exact dx_node (dc_Vn_lt hW v) (fun _ _ _ => K) (fun z => absurd ⟨h1, h2, h3⟩ z)
theorem dc_I_at {k f a b : Int32} (hW : dc_NW fa fc N) (h : dc_I fc N k f a b) : vp_in f 1024 ∧ N.1 f.toNatClampNeg = k ∧ N.2.1 f.toNatClampNeg = a ∧ N.2.2.1 f.toNatClampNeg = b := by
  obtain ⟨n, rfl, v, h1, h2, h3⟩ := h
  have hn := dc_Vn_lt hW v
  rw [nI_clamp (by omega)]
  exact ⟨vp_in_nI hn (by omega), h1, h2, h3⟩
theorem dx_isK {post : Int32 → Prop} {f a g h : Int32} (hW : dc_NW fa fc N) (i1 : dc_I fc N 2 f a g) (i2 : dc_I fc N 2 g h a) (K : post 1) : wpX_isK post (dc_X fa fl fc ml mb lc pr ob im kf N tr lf lr la lb ld lx lab bp bo nd Q O pl) f := by
  obtain ⟨a1, a2, a3, a4⟩ := dc_I_at hW i1
  obtain ⟨b1, b2, b3, b4⟩ := dc_I_at hW i2
  refine ⟨a1, nm_r a4 ⟨b1, br_t b2 ⟨b1, a1, br_t ?_ K⟩⟩⟩
  rw [b4, a3]
theorem dx_isS {post : Int32 → Prop} {f p q a bc b c u w : Int32} (hW : dc_NW fa fc N) (i1 : dc_I fc N 2 f p q) (i2 : dc_I fc N 2 p a bc) (i3 : dc_I fc N 2 bc b c) (i4 : dc_I fc N 2 q u w) (i5 : dc_I fc N 2 u a b) (i6 : dc_I fc N 2 w a c) (K : post 1) : wpX_isS post (dc_X fa fl fc ml mb lc pr ob im kf N tr lf lr la lb ld lx lab bp bo nd Q O pl) f := by
  obtain ⟨a1, a2, a3, a4⟩ := dc_I_at hW i1
  obtain ⟨b1, b2, b3, b4⟩ := dc_I_at hW i2
  obtain ⟨c1, c2, c3, c4⟩ := dc_I_at hW i3
  obtain ⟨d1, d2, d3, d4⟩ := dc_I_at hW i4
  refine ⟨a1, nm_r a3 ⟨a1, nm_r a4 ⟨b1, br_t b2 ⟨d1, br_t d2 ⟨b1, nm_r b3 ⟨b1, nm_r b4 ⟨c1, br_t c2 ⟨d1, c1, ?_⟩⟩⟩⟩⟩⟩⟩⟩
  rw [d3, c3]
  refine dx_nodeI hW i5 (br_f dc_10 ⟨d1, c1, ?_⟩)
  rw [d4, c4]
  exact dx_nodeI hW i6 (br_f dc_10 K)
theorem dx_isN {post : Int32 → Prop} {f tw g ng : Int32} (hW : dc_NW fa fc N) (i1 : dc_I fc N 2 f tw g) (i2 : dc_I fc N 2 tw ng (nI fa)) (i3 : dc_I fc N 2 ng g (nI fa)) (K : post 1) : wpX_isN post (dc_X fa fl fc ml mb lc pr ob im kf N tr lf lr la lb ld lx lab bp bo nd Q O pl) f := by
  obtain ⟨a1, a2, a3, a4⟩ := dc_I_at hW i1
  obtain ⟨b1, b2, b3, b4⟩ := dc_I_at hW i2
  refine ⟨a1, nm_r a3 ⟨b1, br_t b2 ⟨b1, br_t b4 ⟨b1, a1, ?_⟩⟩⟩⟩
  rw [b3, a4]
  exact dx_nodeI hW i3 ⟨narrow_b1, K⟩
theorem dx_isL {post : Int32 → Prop} {f c l r : Int32} (hW : dc_NW fa fc N) (i1 : dc_I fc N 2 f c l) (i2 : dc_I fc N 3 c l r) (K : post 1) : wpX_isL post (dc_X fa fl fc ml mb lc pr ob im kf N tr lf lr la lb ld lx lab bp bo nd Q O pl) f := by
  obtain ⟨a1, a2, a3, a4⟩ := dc_I_at hW i1
  obtain ⟨b1, b2, b3, b4⟩ := dc_I_at hW i2
  refine ⟨a1, nm_r a3 ⟨b1, br_t b2 ⟨b1, a1, br_t ?_ K⟩⟩⟩
  rw [b3, a4]
theorem dx_isR {post : Int32 → Prop} {f c l r : Int32} (hW : dc_NW fa fc N) (i1 : dc_I fc N 2 f c r) (i2 : dc_I fc N 3 c l r) (K : post 1) : wpX_isR post (dc_X fa fl fc ml mb lc pr ob im kf N tr lf lr la lb ld lx lab bp bo nd Q O pl) f := by
  obtain ⟨a1, a2, a3, a4⟩ := dc_I_at hW i1
  obtain ⟨b1, b2, b3, b4⟩ := dc_I_at hW i2
  refine ⟨a1, nm_r a3 ⟨b1, br_t b2 ⟨b1, a1, br_t ?_ K⟩⟩⟩
  rw [b4, a4]
theorem dx_isP {post : Int32 → Prop} {f a g b c : Int32} (hW : dc_NW fa fc N) (i1 : dc_I fc N 2 f a g) (i2 : dc_I fc N 2 g b c) (i3 : dc_I fc N 3 c a b) (K : post 1) : wpX_isP post (dc_X fa fl fc ml mb lc pr ob im kf N tr lf lr la lb ld lx lab bp bo nd Q O pl) f := by
  obtain ⟨a1, a2, a3, a4⟩ := dc_I_at hW i1
  obtain ⟨b1, b2, b3, b4⟩ := dc_I_at hW i2
  refine ⟨a1, nm_r a4 ⟨b1, br_t b2 ⟨b1, a1, b1, ?_⟩⟩⟩
  rw [b4, a3, b3]
  exact dx_nodeI hW i3 ⟨narrow_b1, K⟩
theorem dx_modus {post : Int32 → Prop} {k i j : Nat} (hW : dc_NW fa fc N) (hk : k < 256) (hi : i < k) (hj : j < k) (ei : Q.2.2.1 k = nI i) (ej : Q.2.2.2.1 k = nI j) (hI : dc_I fc N 2 (Q.2.1 i) (Q.2.1 j) (Q.2.1 k)) (K : post 1) : wpX_followsByModus post (dc_X fa fl fc ml mb lc pr ob im kf N tr lf lr la lb ld lx lab bp bo nd Q O pl) (nI k) := by
  have hv : vp_in (nI k) 256 := vp_in_nI hk (by omega)
  have ek : (nI k).toNatClampNeg = k := nI_clamp (by omega)
  refine ⟨hv, ?_⟩
  rw [ek]
  refine nm_r ei ⟨hv, nm_r ej (br_f (nI_pos (by omega)) (br_f (nI_ge hi (by omega)) (br_f (nI_pos (by omega)) (br_t (nI_lt hj (by omega)) ⟨vp_in_nI (by omega) (by omega), vp_in_nI (by omega) (by omega), hv, ?_⟩))))⟩
  rw [nI_clamp (by omega), nI_clamp (by omega)]
  exact dx_nodeI hW hI ⟨narrow_b1, K⟩
theorem dx_acc {post : Int32 → Prop} {P S : Int32} {k : Nat} (hW : dc_NW fa fc N) (hk : k < 256) (h : dc_KL fa fc N Q k) (K1 : ¬ dc_bad P S (Q.1 k) (Q.2.2.1 k) → post 1) (K0 : dc_bad P S (Q.1 k) (Q.2.2.1 k) → post 0) : wpX_accepts post (dc_X fa fl fc ml mb lc pr ob im kf N tr lf lr la lb ld lx lab bp bo nd Q O pl) (nI k) P S := by
  have hv : vp_in (nI k) 256 := vp_in_nI hk (by omega)
  have ek : (nI k).toNatClampNeg = k := nI_clamp (by omega)
  refine ⟨hv, ?_⟩
  rw [ek]
  have nb : ∀ {t0 : Int32}, Q.1 k = t0 → (∀ t x, t = t0 → ¬ dc_bad P S t x) → post 1 := by
    intro t0 e h
    exact K1 (h _ _ e)
  rcases h with ⟨hV, ⟨t, p, p1, p2⟩ | ⟨t, i, j, hi, hj, ei, ej, hI⟩ | hA⟩
  · refine nm_e (br_t t ⟨hv, br_c (fun c => K1 ?_) (fun c => K0 (Or.inl ⟨t, ?_⟩))⟩)
    · rintro (⟨_, z⟩ | ⟨z, _⟩ | ⟨z, _⟩ | ⟨z, _⟩ | ⟨z, _⟩)
      · exact absurd (z.symm.trans c) (by decide)
      all_goals exact absurd (t.symm.trans z) (by decide)
    · exact (dc_01 _).resolve_right c
  · refine nm_e (br_f (by rw [t]; decide) (br_t t (dx_modus hW hk hi hj ei ej hI ⟨narrow_b1, K1 ?_⟩)))
    rintro (⟨z, _⟩ | ⟨z, _⟩ | ⟨z, _⟩ | ⟨z, _⟩ | ⟨z, _⟩) <;> exact absurd (t.symm.trans z) (by decide)
  · obtain ⟨T0, T1, T2, T3⟩ := dc_AX_t hA
    refine nm_e (br_f T1 (br_f T2 ⟨hv, nm_e ?_⟩))
    rcases hA with ⟨t, a, g, x, i1, i2⟩ | ⟨t, p, q, a, bc, b, c, u, w, i1, i2, i3, i4, i5, i6⟩ | ⟨t, tw, g, ng, i1, i2, i3⟩ | ⟨t, c, l, r, i1, i2⟩ | ⟨t, c, l, r, i1, i2⟩ | ⟨t, a, g, b, c, i1, i2, i3⟩
    · obtain ⟨a1, a2, _⟩ := dc_I_at hW i1
      refine ⟨a1, br_t a2 (br_t t (dx_isK hW i1 i2 ⟨narrow_b1, K1 ?_⟩))⟩
      rintro (⟨z, _⟩ | ⟨z, _⟩ | ⟨z, _⟩ | ⟨z, _⟩ | ⟨z, _⟩) <;> exact absurd (t.symm.trans z) (by decide)
    · obtain ⟨a1, a2, _⟩ := dc_I_at hW i1
      refine ⟨a1, br_t a2 (br_f (by rw [t]; decide) (br_t t (dx_isS hW i1 i2 i3 i4 i5 i6 ⟨narrow_b1, K1 ?_⟩)))⟩
      rintro (⟨z, _⟩ | ⟨z, _⟩ | ⟨z, _⟩ | ⟨z, _⟩ | ⟨z, _⟩) <;> exact absurd (t.symm.trans z) (by decide)
    · obtain ⟨a1, a2, _⟩ := dc_I_at hW i1
      refine ⟨a1, br_t a2 (br_f (by rw [t]; decide) (br_f (by rw [t]; decide) (br_t t (br_c (fun c => K0 (Or.inr (Or.inl ⟨t, c⟩))) (fun c => dx_isN hW i1 i2 i3 (br_f dc_10 (K1 ?_)))))))⟩
      rintro (⟨z, _⟩ | ⟨_, z⟩ | ⟨z, _⟩ | ⟨z, _⟩ | ⟨z, _⟩) <;> first | exact c z | exact absurd (t.symm.trans z) (by decide)
    · obtain ⟨a1, a2, _⟩ := dc_I_at hW i1
      refine ⟨a1, br_t a2 (br_f (by rw [t]; decide) (br_f (by rw [t]; decide) (br_f (by rw [t]; decide) (br_t t (br_c (fun c => K0 (Or.inr (Or.inr (Or.inl ⟨t, c⟩)))) (fun c => dx_isL hW i1 i2 (br_f dc_10 (K1 ?_))))))))⟩
      rintro (⟨z, _⟩ | ⟨z, _⟩ | ⟨_, z⟩ | ⟨z, _⟩ | ⟨z, _⟩) <;> first | exact c z | exact absurd (t.symm.trans z) (by decide)
    · obtain ⟨a1, a2, _⟩ := dc_I_at hW i1
      refine ⟨a1, br_t a2 (br_f (by rw [t]; decide) (br_f (by rw [t]; decide) (br_f (by rw [t]; decide) (br_f (by rw [t]; decide) (br_t t (br_c (fun c => K0 (Or.inr (Or.inr (Or.inr (Or.inl ⟨t, c⟩))))) (fun c => dx_isR hW i1 i2 (br_f dc_10 (K1 ?_)))))))))⟩
      rintro (⟨z, _⟩ | ⟨z, _⟩ | ⟨z, _⟩ | ⟨_, z⟩ | ⟨z, _⟩) <;> first | exact c z | exact absurd (t.symm.trans z) (by decide)
    · obtain ⟨a1, a2, _⟩ := dc_I_at hW i1
      refine ⟨a1, br_t a2 (br_f (by rw [t]; decide) (br_f (by rw [t]; decide) (br_f (by rw [t]; decide) (br_f (by rw [t]; decide) (br_f (by rw [t]; decide) (br_t t (br_c (fun d => K0 (Or.inr (Or.inr (Or.inr (Or.inr ⟨t, d⟩))))) (fun d => dx_isP hW i1 i2 i3 (br_f dc_10 (K1 ?_))))))))))⟩
      rintro (⟨z, _⟩ | ⟨z, _⟩ | ⟨z, _⟩ | ⟨z, _⟩ | ⟨_, z⟩) <;> first | exact d z | exact absurd (t.symm.trans z) (by decide)
theorem dx_audit {post : Int32 → Prop} {P S : Int32} {p : Nat} (hW : dc_NW fa fc N) (hc : Q.2.2.2.2.2 ≤ 256) (hp : Q.2.2.2.2.2 = p + 1) (hkf : Q.2.1 p = kf) (h : ∀ k, k < Q.2.2.2.2.2 → dc_KL fa fc N Q k) (K1 : (∀ k, k < Q.2.2.2.2.2 → ¬ dc_bad P S (Q.1 k) (Q.2.2.1 k)) → post 1) (K0 : ∀ k, k < Q.2.2.2.2.2 → dc_bad P S (Q.1 k) (Q.2.2.1 k) → post 0) : ∃ n, wX_audit_19 post P S 7 8 0 1 2 3 4 5 6 7 8 9 32 1024 (nI fa) (nI fl) (nI fc) (nI N.2.2.2) (nI ml) (nI mb) (nI lc) (nI pr) (nI ob) im 256 (nI Q.2.2.2.2.2) kf (nI O.2.2.2.2.2) N.1 N.2.1 N.2.2.1 tr lf lr la lb ld lx lab bp bo nd Q.1 Q.2.1 Q.2.2.1 Q.2.2.2.1 Q.2.2.2.2.1 O.1 O.2.1 O.2.2.1 O.2.2.2.1 O.2.2.2.2.1 pl n 0 := by
  have main : ∀ g k, k ≤ Q.2.2.2.2.2 → Q.2.2.2.2.2 - k < g → (∀ j, j < k → ¬ dc_bad P S (Q.1 j) (Q.2.2.1 j)) → wX_audit_19 post P S 7 8 0 1 2 3 4 5 6 7 8 9 32 1024 (nI fa) (nI fl) (nI fc) (nI N.2.2.2) (nI ml) (nI mb) (nI lc) (nI pr) (nI ob) im 256 (nI Q.2.2.2.2.2) kf (nI O.2.2.2.2.2) N.1 N.2.1 N.2.2.1 tr lf lr la lb ld lx lab bp bo nd Q.1 Q.2.1 Q.2.2.1 Q.2.2.2.1 Q.2.2.2.2.1 O.1 O.2.1 O.2.2.1 O.2.2.2.1 O.2.2.2.2.1 pl g (nI k) := by
    intro g
    induction g with
    | zero => intro k _ h; omega
    | succ g ih =>
      intro k hk hg hb
      refine pk_le Q.2.2.2.2.2 k (fun q => ?_) (fun q => ?_)
      · rw [dc_s1 (by omega), show Q.2.2.2.2.2 - 1 = p by omega]
        refine ⟨vp_in_nI (by omega) (by omega), ?_⟩
        rw [nI_clamp (by omega)]
        exact br_t hkf (K1 (fun j hj => hb j (by omega)))
      · refine dx_acc hW (by omega) (h k q) (fun c => br_f dc_10 (nm_r (nI_1 k) (ih (k + 1) q (by omega) (fun j hj => ?_)))) (fun c => br_t rfl (K0 k q c))
        by_cases e : j = k
        · subst e; exact c
        · exact hb j (by omega)
  exact ⟨Q.2.2.2.2.2 + 1, main (Q.2.2.2.2.2 + 1) 0 (Nat.zero_le _) (by omega) (fun j hj => absurd hj (Nat.not_lt_zero _))⟩
theorem dy_st {c d A B : Prop} (K0 : c ∧ d → A) (K1 : ¬ (c ∧ d) → B) : (c → ((d → A) ∧ (¬ d → B))) ∧ (¬ c → B) :=
  br_c (fun hc => br_c (fun hd => K0 ⟨hc, hd⟩) (fun hd => K1 (fun z => hd z.2))) (fun hc => K1 (fun z => hc z.1))
theorem dy_audit {post : Int32 → Prop} {P S : Int32} (hc : kc ≤ 32) (K1 : (∀ q, q < kc → ¬ dc_badY P S kR kN q) → post 1) (K0 : ∀ q, q < kc → dc_badY P S kR kN q → post 0) : ∃ n, wY_audit_11 post P S (nI fa) (nI fl) (nI ml) (nI mb) (nI fc) (nI lc) (nI kc) yk yl yr yt lf lr ld la lb yn kF kR kN n 0 := by
  have main : ∀ g k, k ≤ kc → kc - k < g → (∀ j, j < k → ¬ dc_badY P S kR kN j) → wY_audit_11 post P S (nI fa) (nI fl) (nI ml) (nI mb) (nI fc) (nI lc) (nI kc) yk yl yr yt lf lr ld la lb yn kF kR kN g (nI k) := by
    intro g
    induction g with
    | zero => intro k _ h; omega
    | succ g ih =>
      intro k hk hg hb
      refine pk_le kc k (fun q => K1 (fun j hj => hb j (by omega))) (fun q => ?_)
      have hv : vp_in (nI k) 32 := vp_in_nI (by omega) (by omega)
      refine ⟨hv, ?_⟩
      rw [nI_clamp (by omega)]
      refine nm_e ?_
      have rest : ¬ (kR k = 7 ∧ (P >>> (kN k &&& 31)) &&& 1 = 0) → wY_audit_49 post (wY_audit_11 post P S (nI fa) (nI fl) (nI ml) (nI mb) (nI fc) (nI lc) (nI kc) yk yl yr yt lf lr ld la lb yn kF kR kN g) P S (nI k) (kR k) (nI fa) (nI fl) (nI ml) (nI mb) (nI fc) (nI lc) (nI kc) yk yl yr yt lf lr ld la lb yn kF kR kN := by
        intro n7
        refine dy_st (fun z => K0 k q (Or.inr (Or.inl z))) (fun n6 => ?_)
        refine dy_st (fun z => K0 k q (Or.inr (Or.inr (Or.inl z)))) (fun n3 => ?_)
        refine dy_st (fun z => K0 k q (Or.inr (Or.inr (Or.inr (Or.inl z))))) (fun n4 => ?_)
        refine dy_st (fun z => K0 k q (Or.inr (Or.inr (Or.inr (Or.inr z))))) (fun n2 => ?_)
        refine nm_r (nI_1 k) (ih (k + 1) q (by omega) (fun j hj => ?_))
        by_cases e : j = k
        · subst e
          rintro (z | z | z | z | z)
          · exact n7 z
          · exact n6 z
          · exact n3 z
          · exact n4 z
          · exact n2 z
        · exact hb j (by omega)
      exact br_c (fun e => ⟨hv, br_c (fun z => K0 k q (Or.inl ⟨e, z⟩)) (fun z => rest (fun w => z w.2))⟩) (fun e => rest (fun w => e w.1))
  exact ⟨kc + 1, main (kc + 1) 0 (Nat.zero_le _) (by omega) (fun j hj => absurd hj (Nat.not_lt_zero _))⟩
end
theorem i_vc_audit {k : Nat} {u : SX} {v : SY} (I : i_Rel k u v) (hk : k + 5 ≤ 2564) (v1 : Int32) (v2 : Int32) : wpX_audit (fun r => wpY_audit (fun r' => r' = r ∧ i_Rel (k + 5) u v) v v1 v2) u v1 v2 := by
  refine dc_el (P := fun u v => wpX_audit (fun r => wpY_audit (fun r' => r' = r ∧ i_Rel (k + 5) u v) v v1 v2) u v1 v2) I ?_
  intro fa fl fc ml mb lc pr ob kc im kf N tr lf lr la lb ld lx lab bp bo nd Q O pl yk yl yr yt yn kF kR kN g
  have g' := g
  obtain ⟨_, hW, hU, hY, hL, hK⟩ := g'
  rcases hK with ⟨a, b⟩ | ⟨h1, ⟨q, c, q1, q2, q3, q4⟩, h3, ⟨p, p1, p2⟩, h5, h6, h7, h8⟩
  · refine br_t (by rw [b]; exact dc_n1) (pk_eq kc 0 (fun _ => ⟨rfl, dc_mk g⟩) (fun e => absurd a e))
  · have hc := hW.2.1
    have hkf : ¬ kf < 0 := by rw [q3]; exact nI_pos (by omega)
    have hb := dc_bad_iff (P := v1) (S := v2) h6
    have hkc : ¬ nI kc = 0 := nI_ne0 (by omega) (by omega)
    refine br_f hkf (br_t (nI_le (a := 1) (by omega) (by omega)) (dx_audit hW h3 p1 p2 h5 (fun no => ?_) (fun j hj bj => ?_)))
    · refine br_f hkc (dy_audit h1 (fun _ => ⟨rfl, dc_mk g⟩) (fun i hi bi => ?_))
      obtain ⟨j, hj, bj⟩ := hb.mpr ⟨i, hi, bi⟩
      exact absurd bj (no j hj)
    · refine br_f hkc (dy_audit h1 (fun no => ?_) (fun i hi bi => ⟨rfl, dc_mk g⟩))
      obtain ⟨i, hi, bi⟩ := hb.mp ⟨j, hj, bj⟩
      exact absurd bi (no i hi)
end
section
/-! allTrue: soundness -/
section
variable {fa fc : Nat} {N : dc_N} {v : Int32} {t : Nat → Int32}
theorem dc_tI {f a b : Int32} (ht : dc_TI fc N v t N.2.2.2) (hW : dc_NW fa fc N) (h : dc_I fc N 2 f a b) : ¬ t f.toNatClampNeg = 0 ↔ (¬ t a.toNatClampNeg = 0 → ¬ t b.toNatClampNeg = 0) := by
  obtain ⟨n, rfl, vn, h1, h2, h3⟩ := h
  have hn := dc_Vn_lt hW vn
  have w2 := hW.2.1
  have w3 := hW.2.2.1
  have hnt : n < N.2.2.2 := by rcases vn with z | z <;> omega
  rw [nI_clamp (by omega), ht n hnt vn, dc_tv_2 h1, h2, h3]
  by_cases x : t a.toNatClampNeg = 0
  · rw [if_pos x]
    exact ⟨fun _ z => absurd x z, fun _ => dc_10⟩
  · rw [if_neg x]
    by_cases y : t b.toNatClampNeg = 0
    · rw [if_pos y]
      exact ⟨fun z => absurd rfl z, fun z => absurd y (z x)⟩
    · rw [if_neg y]
      exact ⟨fun _ _ => y, fun _ => dc_10⟩
theorem dc_tA {f a b : Int32} (ht : dc_TI fc N v t N.2.2.2) (hW : dc_NW fa fc N) (h : dc_I fc N 3 f a b) : ¬ t f.toNatClampNeg = 0 ↔ (¬ t a.toNatClampNeg = 0 ∧ ¬ t b.toNatClampNeg = 0) := by
  obtain ⟨n, rfl, vn, h1, h2, h3⟩ := h
  have hn := dc_Vn_lt hW vn
  have w2 := hW.2.1
  have w3 := hW.2.2.1
  have hnt : n < N.2.2.2 := by rcases vn with z | z <;> omega
  rw [nI_clamp (by omega), ht n hnt vn, dc_tv_3 h1, h2, h3]
  by_cases x : t a.toNatClampNeg = 0
  · rw [if_pos x]
    exact ⟨fun z => absurd rfl z, fun z => absurd x z.1⟩
  · rw [if_neg x]
    by_cases y : t b.toNatClampNeg = 0
    · rw [if_pos y]
      exact ⟨fun z => absurd rfl z, fun z => absurd y z.2⟩
    · rw [if_neg y]
      exact ⟨fun _ => ⟨x, y⟩, fun _ => dc_10⟩
theorem dc_tF (ht : dc_TI fc N v t N.2.2.2) (hW : dc_NW fa fc N) : t (nI fa).toNatClampNeg = 0 := by
  have w1 := hW.1
  have w2 := hW.2.1
  have w3 := hW.2.2.1
  rw [nI_clamp (by omega), ht fa (by omega) (Or.inl w1)]
  exact dc_tv_1 hW.2.2.2.2.2.1.1
theorem dc_AX_true {s f : Int32} (ht : dc_TI fc N v t N.2.2.2) (hW : dc_NW fa fc N) (h : dc_AX fc N (nI fa) s f) : ¬ t f.toNatClampNeg = 0 := by
  rcases h with ⟨e, a, g, x, i1, i2⟩ | ⟨e, p, q, a, bc, b, c, u, w, i1, i2, i3, i4, i5, i6⟩ | ⟨e, tw, g, ng, i1, i2, i3⟩ | ⟨e, c, l, r, i1, i2⟩ | ⟨e, c, l, r, i1, i2⟩ | ⟨e, a, g, b, c, i1, i2, i3⟩
  · rw [dc_tI ht hW i1, dc_tI ht hW i2]
    exact fun z _ => z
  · rw [dc_tI ht hW i1, dc_tI ht hW i2, dc_tI ht hW i3, dc_tI ht hW i4, dc_tI ht hW i5, dc_tI ht hW i6]
    exact fun z1 z2 z3 => z1 z3 (z2 z3)
  · rw [dc_tI ht hW i1, dc_tI ht hW i2, dc_tI ht hW i3]
    have F := dc_tF ht hW
    intro z1
    by_cases y : t g.toNatClampNeg = 0
    · exact absurd F (z1 (fun q => absurd y q))
    · exact y
  · rw [dc_tI ht hW i1, dc_tA ht hW i2]
    exact fun z => z.1
  · rw [dc_tI ht hW i1, dc_tA ht hW i2]
    exact fun z => z.2
  · rw [dc_tI ht hW i1, dc_tI ht hW i2, dc_tA ht hW i3]
    exact fun z1 z2 => ⟨z1, z2⟩
theorem dc_sound {Q : dc_O} {kc : Nat} {kF kR kN : Nat → Int32} (ht : dc_TI fc N v t N.2.2.2) (hW : dc_NW fa fc N) (h5 : ∀ k, k < Q.2.2.2.2.2 → dc_KL fa fc N Q k) (h6 : ∀ t x f, dc_MT t → (dc_HM Q Q.2.2.2.2.2 t x f ↔ ∃ q, q < kc ∧ dc_SM kF kR kN q t x f)) (hp : ∀ q, q < kc → kR q = 7 → ¬ t (kF q).toNatClampNeg = 0) : ∀ k, k < Q.2.2.2.2.2 → ¬ t (Q.2.1 k).toNatClampNeg = 0 := by
  intro k
  induction k using Nat.strongRecOn with
  | _ k ih =>
    intro hk
    rcases (h5 k hk).2 with ⟨e, p, p1, p2⟩ | ⟨e, i, j, hi, hj, ei, ej, hI⟩ | hA
    · obtain ⟨q, hq, s⟩ := (h6 1 (Q.2.2.1 k) (Q.2.1 k) (Or.inl rfl)).mp ⟨k, hk, e, fun _ => ⟨rfl, rfl⟩⟩
      rcases s with ⟨_, a, b, c⟩ | ⟨a, _⟩ | ⟨a, _⟩ | ⟨a, _⟩ | ⟨a, _⟩
      · rw [← c]; exact hp q hq a
      all_goals exact absurd a (by decide)
    · exact (dc_tI ht hW hI).mp (ih i hi (by omega)) (ih j hj (by omega))
    · exact dc_AX_true ht hW hA
end
section
variable {fa fl fc ml mb lc pr ob kc : Nat} {im kf : Int32} {N : dc_N} {tr lf lr la lb ld lx lab bp bo nd pl : Nat → Int32} {Q O : dc_O} {yk yl yr yt yn kF kR kN : Nat → Int32} {v : Int32}
theorem dx_all {post : Int32 → SX → Prop} (hW : dc_NW fa fc N) (hc : Q.2.2.2.2.2 ≤ 256) (h : ∀ k, k < Q.2.2.2.2.2 → dc_KL fa fc N Q k) (K1 : (∀ k, k < Q.2.2.2.2.2 → ¬ tr (Q.2.1 k).toNatClampNeg = 0) → post 1 (dc_X fa fl fc ml mb lc pr ob im kf N tr lf lr la lb ld lx lab bp bo nd Q O pl)) (K0 : ∀ k, k < Q.2.2.2.2.2 → tr (Q.2.1 k).toNatClampNeg = 0 → post 0 (dc_X fa fl fc ml mb lc pr ob im kf N tr lf lr la lb ld lx lab bp bo nd Q O pl)) : ∃ n, wX_allTrue_32 post 7 8 0 1 2 3 4 5 6 7 8 9 32 1024 (nI fa) (nI fl) (nI fc) (nI N.2.2.2) (nI ml) (nI mb) (nI lc) (nI pr) (nI ob) im 256 (nI Q.2.2.2.2.2) kf (nI O.2.2.2.2.2) N.1 N.2.1 N.2.2.1 tr lf lr la lb ld lx lab bp bo nd Q.1 Q.2.1 Q.2.2.1 Q.2.2.2.1 Q.2.2.2.2.1 O.1 O.2.1 O.2.2.1 O.2.2.2.1 O.2.2.2.2.1 pl n 0 := by
  have main : ∀ g k, k ≤ Q.2.2.2.2.2 → Q.2.2.2.2.2 - k < g → (∀ j, j < k → ¬ tr (Q.2.1 j).toNatClampNeg = 0) → wX_allTrue_32 post 7 8 0 1 2 3 4 5 6 7 8 9 32 1024 (nI fa) (nI fl) (nI fc) (nI N.2.2.2) (nI ml) (nI mb) (nI lc) (nI pr) (nI ob) im 256 (nI Q.2.2.2.2.2) kf (nI O.2.2.2.2.2) N.1 N.2.1 N.2.2.1 tr lf lr la lb ld lx lab bp bo nd Q.1 Q.2.1 Q.2.2.1 Q.2.2.2.1 Q.2.2.2.2.1 O.1 O.2.1 O.2.2.1 O.2.2.2.1 O.2.2.2.2.1 pl g (nI k) := by
    intro g
    induction g with
    | zero => intro k _ h; omega
    | succ g ih =>
      intro k hk hg hb
      refine pk_le Q.2.2.2.2.2 k (fun q => K1 (fun j hj => hb j (by omega))) (fun q => ⟨vp_in_nI (by omega) (by omega), ?_⟩)
      rw [nI_clamp (by omega)]
      refine ⟨dc_V_in hW (h k q).1, br_c (fun z => K0 k q z) (fun z => nm_r (nI_1 k) (ih (k + 1) q (by omega) (fun j hj => ?_)))⟩
      by_cases e : j = k
      · subst e; exact z
      · exact hb j (by omega)
  exact ⟨Q.2.2.2.2.2 + 1, main (Q.2.2.2.2.2 + 1) 0 (Nat.zero_le _) (by omega) (fun j hj => absurd hj (Nat.not_lt_zero _))⟩
theorem dy_all {post : Int32 → SY → Prop} {t : Nat → Int32} {e : Nat} (hW : dc_NW fa fc N) (hY : dc_PY fa fc N yk yl yr) (hc : kc ≤ 32) (ht : dc_TI fc N v t e) (he : fc ≤ e) (h7 : ∀ q, q < kc → kR q = 7 → ∃ p g : Nat, p < 8 ∧ kN q = nI p ∧ g < fc ∧ kF q = nI g)
    (K1 : ∀ yt', (∀ q, q < kc → kR q = 7 → ¬ t (kF q).toNatClampNeg = 0) → post 1 (dc_Y fa fl ml mb fc lc kc yk yl yr yt' lf lr ld la lb yn kF kR kN)) (K0 : ∀ yt' q, q < kc → kR q = 7 → t (kF q).toNatClampNeg = 0 → post 0 (dc_Y fa fl ml mb fc lc kc yk yl yr yt' lf lr ld la lb yn kF kR kN)) : ∃ n, wY_allTrue_11 post v n 0 (nI fa) (nI fl) (nI ml) (nI mb) (nI fc) (nI lc) (nI kc) yk yl yr yt lf lr ld la lb yn kF kR kN := by
  have hfc := hW.2.1
  have main : ∀ (g k : Nat) (yt : Nat → Int32), k ≤ kc → kc - k < g → (∀ q, q < k → kR q = 7 → ¬ t (kF q).toNatClampNeg = 0) → wY_allTrue_11 post v g (nI k) (nI fa) (nI fl) (nI ml) (nI mb) (nI fc) (nI lc) (nI kc) yk yl yr yt lf lr ld la lb yn kF kR kN := by
    intro g
    induction g with
    | zero => intro k yt _ h; omega
    | succ g ih =>
      intro k yt hk hg hb
      have hv : k < kc → vp_in (nI k) 32 := fun q => vp_in_nI (by omega) (by omega)
      refine pk_le kc k (fun q => K1 yt (fun j hj => hb j (by omega))) (fun q => ⟨hv q, ?_⟩)
      rw [nI_clamp (by omega)]
      refine br_c (fun z => ⟨hv q, ?_⟩) (fun z => nm_r (nI_1 k) (ih (k + 1) yt q (by omega) (fun j hj h => ?_)))
      · obtain ⟨p, f, p1, p2, p3, p4⟩ := h7 k q z
        rw [p4]
        refine dy_value hW hY p3 (fun yt' hy => ?_)
        have e1 := dc_agree hW hY ht hy f (by omega) p3
        have e2 : t (kF k).toNatClampNeg = yt' f := by rw [p4, nI_clamp (by omega)]; exact e1
        refine br_c (fun z1 => br_t rfl (K0 yt' k q z (e2.trans z1))) (fun z1 => br_f dc_10 (nm_r (nI_1 k) (ih (k + 1) yt' q (by omega) (fun j hj h => ?_))))
        by_cases e : j = k
        · subst e; rw [e2]; exact z1
        · exact hb j (by omega) h
      · by_cases e : j = k
        · subst e; exact absurd h z
        · exact hb j (by omega) h
  exact ⟨kc + 1, main (kc + 1) 0 yt (Nat.zero_le _) (by omega) (fun j hj => absurd hj (Nat.not_lt_zero _))⟩
end
theorem i_vc_allTrue {k : Nat} {u : SX} {v : SY} (I : i_Rel k u v) (hk : k + 5 ≤ 2564) (v1 : Int32) : wpX_allTrue (fun r u' => wpY_allTrue (fun r' v' => r' = r ∧ i_Rel (k + 5) u' v') v v1) u v1 := by
  refine dc_el (P := fun u v => wpX_allTrue (fun r u' => wpY_allTrue (fun r' v' => r' = r ∧ i_Rel (k + 5) u' v') v v1) u v1) I ?_
  intro fa fl fc ml mb lc pr ob kc im kf N tr lf lr la lb ld lx lab bp bo nd Q O pl yk yl yr yt yn kF kR kN g
  have g' := g
  obtain ⟨_, hW, hU, hY, hL, hK⟩ := g'
  have w2 := hW.2.1
  have w3 := hW.2.2.1
  have w4 := hW.2.2.2.1
  rcases hK with ⟨a, b⟩ | ⟨h1, ⟨q, c, q1, q2, q3, q4⟩, h3, ⟨p, p1, p2⟩, h5, h6, h7, h8⟩
  · refine br_f (by rw [b]; exact dc_n1') (pk_eq kc 0 (fun _ => ⟨rfl, dc_mk g⟩) (fun e => absurd a e))
  · have hkf : 0 ≤ kf := by rw [q3]; exact nI_pos' (by omega)
    have hkc : ¬ nI kc = 0 := nI_ne0 (by omega) (by omega)
    refine br_t hkf ?_
    refine dx_eval (i0 := 0) (e := fc) hW (by omega) (Nat.zero_le _) (fun n _ hn => Or.inl hn) (fun m hm => absurd hm (Nat.not_lt_zero _)) (fun t1 ht1 => ?_)
    refine dx_eval (i0 := 32) (e := N.2.2.2) hW w4 w3 (fun n h1 h2 => Or.inr ⟨h1, h2⟩) (fun m hm hvm => ?_) (fun t2 ht2 => ?_)
    · have hmf : m < fc := by rcases hvm with z | z <;> omega
      exact ht1 m hmf hvm
    · refine dx_all hW h3 h5 (fun no => ?_) (fun j hj z => ?_)
      · refine br_f hkc (dy_all hW hY h1 ht2 (by omega) h7 (fun yt' _ => ⟨rfl, dc_mk g⟩) (fun yt' i hi e z => ?_))
        obtain ⟨j, hj, m1, m2⟩ := (h6 1 (kN i) (kF i) (Or.inl rfl)).mpr ⟨i, hi, Or.inl ⟨rfl, e, rfl, rfl⟩⟩
        rw [← (m2 rfl).2] at z
        exact absurd z (no j hj)
      · refine br_f hkc (dy_all hW hY h1 ht2 (by omega) h7 (fun yt' hp => ?_) (fun yt' i hi e z => ⟨rfl, dc_mk g⟩))
        exact absurd z (dc_sound ht2 hW h5 h6 hp j hj)
end
