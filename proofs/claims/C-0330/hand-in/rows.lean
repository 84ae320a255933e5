section
theorem pk_us {f : Nat → Int32} {k : Nat} {x : Int32} : upd f k x k = x := if_pos rfl
theorem pk_un {f : Nat → Int32} {k j : Nat} {x : Int32} (h : j ≠ k) : upd f k x j = f j := if_neg h
theorem pk_sub {a b : Nat} (h : b ≤ a) : nI a - nI b = nI (a - b) := by
  obtain ⟨c, rfl⟩ : ∃ c, a = c + b := ⟨a - b, by omega⟩
  rw [← nI_add, Int32.add_sub_cancel, Nat.add_sub_cancel]
theorem pk_m1 (n : Nat) : nI (n + 1) + (-1) = nI n := by
  rw [← nI_1, Int32.add_assoc, show (1 : Int32) + (-1) = 0 from rfl, Int32.add_zero]
theorem pk_mul (a b : Nat) : nI a * nI b = nI (a * b) := (Int32.ofNat_mul a b).symm
theorem pk_div {a d : Nat} (ha : a < 2 ^ 31) (h0 : 0 < d) (hd : d < 2 ^ 31) : nI a / nI d = nI (a / d) := by
  apply Int32.toInt_inj.mp
  rw [lg_idiv_nonneg (by rw [nI_toInt ha]; omega) (by rw [nI_toInt hd]; omega), nI_toInt ha, nI_toInt hd, nI_toInt (Nat.lt_of_le_of_lt (Nat.div_le_self a d) ha)]
  first | rfl | exact (Int.natCast_ediv _ _).symm
theorem pk_rem {a d : Nat} (ha : a < 2 ^ 31) (h0 : 0 < d) (hd : d < 2 ^ 31) : nI a - nI a / nI d * nI d = nI (a % d) := by
  rw [pk_div ha h0 hd, pk_mul, pk_sub (Nat.div_mul_le_self a d)]
  exact congrArg nI (by have := Nat.div_add_mod' a d; omega)
theorem pk_sub_toInt {a b : Nat} (ha : a < 2 ^ 30) (hb : b < 2 ^ 30) : (nI a - nI b).toInt = (a : Int) - b := by
  rw [Int32.toInt_sub, nI_toInt (by omega), nI_toInt (by omega)]
  exact Int.bmod_eq_of_le (by omega) (by omega)
theorem pk_sneg {a b : Nat} (hb : b < 2 ^ 30) (h : a < b) : nI a - nI b < 0 := by
  rw [Int32.lt_iff_toInt_lt, pk_sub_toInt (by omega) hb, show (0 : Int32).toInt = 0 from by decide]
  omega
theorem pk_ix (x : Int32) {n : Nat} (hn : n < 2 ^ 31) : x < 0 ∨ nI n ≤ x ∨ ∃ j : Nat, j < n ∧ x = nI j := by
  by_cases h : x < 0
  · exact Or.inl h
  · obtain ⟨j, hj, rfl⟩ := nI_of h
    by_cases h2 : j < n
    · exact Or.inr (Or.inr ⟨j, h2, rfl⟩)
    · exact Or.inr (Or.inl (nI_le (by omega) hj))
theorem pk_le {x y : Int32} {A B : Prop} (a b : Nat) (f : a ≤ b → A) (g : b < a → B) (hx : x = nI a := by rfl) (hy : y = nI b := by rfl) (ha : a < 2 ^ 31 := by omega) (hb : b < 2 ^ 31 := by omega) : (x ≤ y → A) ∧ (¬ x ≤ y → B) := by
  subst hx hy
  rw [nI_leI ha hb]
  exact ⟨f, fun z => g (by omega)⟩
theorem pk_lt {x y : Int32} {A B : Prop} (a b : Nat) (f : a < b → A) (g : b ≤ a → B) (hx : x = nI a := by rfl) (hy : y = nI b := by rfl) (ha : a < 2 ^ 31 := by omega) (hb : b < 2 ^ 31 := by omega) : (x < y → A) ∧ (¬ x < y → B) := by
  subst hx hy
  rw [nI_ltI ha hb]
  exact ⟨f, fun z => g (by omega)⟩
theorem pk_eq {x y : Int32} {A B : Prop} (a b : Nat) (f : a = b → A) (g : a ≠ b → B) (hx : x = nI a := by rfl) (hy : y = nI b := by rfl) (ha : a < 2 ^ 31 := by omega) (hb : b < 2 ^ 31 := by omega) : (x = y → A) ∧ (¬ x = y → B) := by
  subst hx hy
  rw [nI_eq ha hb]
  exact ⟨f, g⟩
theorem pk_in {x : Int32} (n N : Nat) (h : n < N) (hx : x = nI n := by rfl) (hN : N < 2 ^ 31 := by omega) : vp_in x N := by
  subst hx
  exact vp_in_nI h hN
theorem pk_cl {x : Int32} (n : Nat) (hx : x = nI n := by rfl) (h : n < 2 ^ 31 := by omega) : x.toNatClampNeg = n := by
  subst hx
  exact nI_clamp h
theorem pk_tn {n : Nat} (h : n < 2 ^ 32) : (nI n).toBitVec.toNat = n := Nat.mod_eq_of_lt h
theorem pk_shl (a s : Int32) (k : Nat) (hs : (s.toBitVec.smod 32).toNat = k) : (a <<< s).toBitVec.toNat = a.toBitVec.toNat * 2 ^ k % 2 ^ 32 := by
  show (a.toBitVec <<< (s.toBitVec.smod 32).toNat).toNat = _
  rw [hs, BitVec.toNat_shiftLeft, Nat.shiftLeft_eq]
theorem pk_shlN {n : Nat} (s : Int32) (k : Nat) (hs : (s.toBitVec.smod 32).toNat = k) (h : n * 2 ^ k < 2 ^ 32) : nI n <<< s = nI (n * 2 ^ k) := by
  apply Int32.toBitVec_inj.mp
  apply BitVec.eq_of_toNat_eq
  have hn : n < 2 ^ 32 := Nat.lt_of_le_of_lt (Nat.le_mul_of_pos_right n (Nat.two_pow_pos k)) h
  rw [pk_shl _ _ k hs, pk_tn hn, pk_tn h, Nat.mod_eq_of_lt h]
theorem pk_shr (a s : Int32) (k : Nat) (hs : (s.toBitVec.smod 32).toNat = k) : (a >>> s).toInt = a.toInt >>> k := by
  show (a.toBitVec.sshiftRight (s.toBitVec.smod 32).toNat).toInt = _
  rw [hs, BitVec.toInt_sshiftRight]
  rfl
theorem pk_shrN {n : Nat} (h : n < 2 ^ 31) (s : Int32) (k : Nat) (hs : (s.toBitVec.smod 32).toNat = k) : nI n >>> s = nI (n / 2 ^ k) := by
  apply Int32.toInt_inj.mp
  have h2 : n / 2 ^ k ≤ n := Nat.div_le_self _ _
  rw [pk_shr _ _ k hs, nI_toInt h, nI_toInt (by omega), Int.shiftRight_eq_div_pow]
  rfl
theorem pk_vb (z : Int32) : vp_nar .byte z.toInt8.toInt32 = z.toInt8.toInt32 := by rw [vp_nar_byte]; simp
theorem pk_least (P : Nat → Prop) (h : ∃ k, P k) : ∃ k, P k ∧ ∀ j, j < k → ¬ P j := by
  obtain ⟨k, hk⟩ := h
  induction k using Nat.strongRecOn with
  | ind k ih =>
    by_cases e : ∃ j, j < k ∧ P j
    · obtain ⟨j, hj, pj⟩ := e
      exact ih j hj pj
    · exact ⟨k, hk, fun j hj pj => e ⟨j, hj, pj⟩⟩
theorem co_2 {P : Nat → Prop} (h0 : P 0) (h1 : P 1) {i : Nat} (hi : i < 2) : P i :=
  match i, hi with
  | 0, _ => h0
  | 1, _ => h1
theorem co_3 {P : Nat → Prop} (h0 : P 0) (h1 : P 1) (h2 : P 2) {i : Nat} (hi : i < 3) : P i :=
  match i, hi with
  | 0, _ => h0
  | 1, _ => h1
  | 2, _ => h2
theorem co_4 {P : Nat → Prop} (h0 : P 0) (h1 : P 1) (h2 : P 2) (h3 : P 3) {i : Nat} (hi : i < 4) : P i :=
  match i, hi with
  | 0, _ => h0
  | 1, _ => h1
  | 2, _ => h2
  | 3, _ => h3
theorem sb_negT {w : Nat} (h : w < 2 ^ 31) : (-nI w).toInt = -(w : Int) := by
  rw [Int32.toInt_neg, nI_toInt h]
  exact Int.bmod_eq_of_le (by omega) (by omega)
theorem s_l : ∀ n, n < 32 → ((nI n &&& 31).toBitVec.smod 32).toNat = n := by decide +kernel
theorem nx_and (a b : Nat) : nI a &&& nI b = nI (a &&& b) := by
  apply Int32.toBitVec_inj.1
  show BitVec.ofNat 32 a &&& BitVec.ofNat 32 b = BitVec.ofNat 32 (a &&& b)
  apply BitVec.eq_of_getLsbD_eq
  intro i hi
  simp [hi]
end
section
/-! lists read backwards (the last letter first), and the longest ending that lies in a set -/
def ac_rl {α : Type} (f : Nat → α) : Nat → List α
  | 0 => []
  | n + 1 => f n :: ac_rl f n
theorem ac_rl_len {α : Type} (f : Nat → α) (n : Nat) : (ac_rl f n).length = n := by
  induction n with
  | zero => rfl
  | succ n ih => show (ac_rl f n).length + 1 = n + 1; rw [ih]
theorem ac_rl_inj {α : Type} {f g : Nat → α} {a b : Nat} (h : ac_rl f a = ac_rl g b) : a = b := by
  have := congrArg List.length h
  rwa [ac_rl_len, ac_rl_len] at this
theorem ac_rl_ne {α : Type} {f : Nat → α} {a : Nat} (h : 0 < a) : ac_rl f a ≠ [] := by
  intro e
  have := congrArg List.length e
  rw [ac_rl_len] at this
  exact absurd this (Nat.pos_iff_ne_zero.mp h)
theorem ac_rl_congr {α : Type} {f g : Nat → α} {n : Nat} (h : ∀ i, i < n → f i = g i) : ac_rl f n = ac_rl g n := by
  induction n with
  | zero => rfl
  | succ n ih =>
    show f n :: ac_rl f n = g n :: ac_rl g n
    rw [h n (by omega), ih (fun i hi => h i (by omega))]
/-- the first m of f are the last m of the first n of g -/
theorem ac_rl_pre {α : Type} {f g : Nat → α} : ∀ {m n : Nat}, ac_rl f m <+: ac_rl g n ↔ m ≤ n ∧ ∀ i, i < m → f i = g (n - m + i) := by
  intro m
  induction m with
  | zero => intro n; exact ⟨fun _ => ⟨Nat.zero_le _, fun i hi => absurd hi (Nat.not_lt_zero _)⟩, fun _ => List.nil_prefix⟩
  | succ m ih =>
    intro n
    cases n with
    | zero =>
      constructor
      · intro h
        have := h.length_le
        rw [ac_rl_len, ac_rl_len] at this
        omega
      · intro h; exact absurd h.1 (by omega)
    | succ n =>
      show f m :: ac_rl f m <+: g n :: ac_rl g n ↔ _
      rw [List.cons_prefix_cons, ih]
      constructor
      · rintro ⟨h1, h2, h3⟩
        refine ⟨by omega, fun i hi => ?_⟩
        rw [show n + 1 - (m + 1) + i = n - m + i from by omega]
        rcases Nat.lt_or_ge i m with z | z
        · exact h3 i z
        · have : i = m := by omega
          subst this
          rw [show n - i + i = n from by omega]; exact h1
      · rintro ⟨h1, h2⟩
        refine ⟨?_, by omega, fun i hi => ?_⟩
        · have := h2 m (by omega)
          rwa [show n + 1 - (m + 1) + m = n from by omega] at this
        · have := h2 i (by omega)
          rwa [show n + 1 - (m + 1) + i = n - m + i from by omega] at this
theorem ac_pre_anti {α : Type} {a b : List α} (h : a <+: b) (h' : b <+: a) : a = b := h.eq_of_length_le h'.length_le
theorem ac_pre_dl {α : Type} {u v : List α} (h : v <+: u) (hne : v ≠ u) : v <+: u.dropLast := by
  by_cases z : u = []
  · subst z; exact h
  · have e := List.dropLast_concat_getLast z
    have h2 : v <+: u.dropLast ++ [u.getLast z] := by rw [e]; exact h
    rcases List.prefix_concat_iff.mp h2 with h1 | h1
    · exact absurd (h1.trans e) hne
    · exact h1
/-- u is the longest ending of t in S -/
def ac_L {α : Type} (S : List α → Prop) (t u : List α) : Prop := S u ∧ u <+: t ∧ ∀ v, S v → v <+: t → v <+: u
section
variable {α : Type} {S : List α → Prop} {t u v f : List α} {c : α}
theorem ac_self (h : S u) : ac_L S u u := ⟨h, List.prefix_rfl, fun _ _ h => h⟩
theorem ac_uniq (h : ac_L S t u) (h' : ac_L S t v) : u = v := ac_pre_anti (h'.2.2 u h.1 h.2.1) (h.2.2 v h'.1 h'.2.1)
theorem ac_root (h0 : S []) (hc : ¬ S [c]) : ac_L S [c] [] := by
  refine ⟨h0, List.nil_prefix, fun v hv hp => ?_⟩
  rcases List.prefix_cons_iff.mp hp with h | ⟨t, h, h'⟩
  · rw [h]; exact List.nil_prefix
  · rw [List.prefix_nil.mp h'] at h; subst h; exact absurd hv hc
theorem ac_step (hS : ∀ c u, S (c :: u) → S u) (h : ac_L S t u) (h' : ac_L S (c :: u) v) : ac_L S (c :: t) v := by
  refine ⟨h'.1, h'.2.1.trans (List.cons_prefix_cons.mpr ⟨rfl, h.2.1⟩), fun x hx hp => ?_⟩
  rcases List.prefix_cons_iff.mp hp with e | ⟨y, e, hy⟩
  · rw [e]; exact List.nil_prefix
  · subst e; exact h'.2.2 _ hx (List.cons_prefix_cons.mpr ⟨rfl, h.2.2 y (hS _ _ hx) hy⟩)
theorem ac_miss (hS : ∀ c u, S (c :: u) → S u) (hu : u ≠ []) (h : ac_L S u.dropLast f) (hc : ¬ S (c :: u)) (h' : ac_L S (c :: f) v) : ac_L S (c :: u) v := by
  have h1 := ac_step hS h h'
  refine ⟨h1.1, h1.2.1.trans (List.cons_prefix_cons.mpr ⟨rfl, List.dropLast_prefix u⟩), fun x hx hp => h1.2.2 x hx ?_⟩
  have hne : x ≠ c :: u := fun e => hc (e ▸ hx)
  have := ac_pre_dl hp hne
  rwa [List.dropLast_cons_of_ne_nil hu] at this
end
/-! one word R of length h: its beginnings, the failure function, the state of a column -/
def kp_S (R : Nat → Int32) (h : Nat) : List Int32 → Prop := fun l => ∃ m, m ≤ h ∧ l = ac_rl R m
/-- from m by c to m' -/
def kp_N (R : Nat → Int32) (h m : Nat) (c : Int32) (m' : Nat) : Prop := m' ≤ h ∧ ac_L (kp_S R h) (c :: ac_rl R m) (ac_rl R m')
/-- the failure of k is f -/
def kp_F (R : Nat → Int32) (h k f : Nat) : Prop := f < k ∧ ac_L (kp_S R h) (ac_rl R k).dropLast (ac_rl R f)
/-- after the first y of col the state is m -/
def kp_C (R : Nat → Int32) (h : Nat) (col : Nat → Int32) (y m : Nat) : Prop := m ≤ h ∧ ac_L (kp_S R h) (ac_rl col y) (ac_rl R m)
section
variable {R col : Nat → Int32} {h m m' k f y : Nat} {c : Int32}
theorem kp_0 : kp_S R h [] := ⟨0, Nat.zero_le _, rfl⟩
theorem kp_cl : ∀ c u, kp_S R h (c :: u) → kp_S R h u := by
  rintro c u ⟨m, hm, e⟩
  cases m with
  | zero => exact absurd e (List.cons_ne_nil _ _)
  | succ m => exact ⟨m, by omega, (List.cons.inj e).2⟩
theorem kp_nS (hne : m < h → R m ≠ c) : ¬ kp_S R h (c :: ac_rl R m) := by
  rintro ⟨k, hk, e⟩
  have e1 := congrArg List.length e
  rw [List.length_cons, ac_rl_len, ac_rl_len] at e1
  subst e1
  exact hne (by omega) (List.cons.inj e).1.symm
theorem kp_hit (hm : m < h) : kp_N R h m (R m) (m + 1) := ⟨hm, ac_self (S := kp_S R h) (u := ac_rl R (m + 1)) ⟨m + 1, hm, rfl⟩⟩
theorem kp_zero (hne : 0 < h → R 0 ≠ c) : kp_N R h 0 c 0 := ⟨Nat.zero_le _, ac_root kp_0 (kp_nS (m := 0) hne)⟩
theorem kp_fail (hm : 0 < m) (hF : kp_F R h m f) (hne : m < h → R m ≠ c) (hN : kp_N R h f c m') : kp_N R h m c m' :=
  ⟨hN.1, ac_miss kp_cl (ac_rl_ne hm) hF.2 (kp_nS hne) hN.2⟩
theorem kp_N_le (hN : kp_N R h m c m') : m' ≤ m + 1 := by
  have := hN.2.2.1.length_le
  rwa [List.length_cons, ac_rl_len, ac_rl_len] at this
theorem kp_F1 : kp_F R h 1 0 := ⟨Nat.zero_lt_one, ac_self kp_0⟩
theorem kp_next (hk : 0 < k) (hF : kp_F R h k m) (hN : kp_N R h m (R k) m') : kp_F R h (k + 1) m' := by
  have h1 := kp_N_le hN
  have h2 := hF.1
  refine ⟨by omega, ?_⟩
  show ac_L _ (R k :: ac_rl R k).dropLast _
  rw [List.dropLast_cons_of_ne_nil (ac_rl_ne hk)]
  exact ac_step kp_cl hF.2 hN.2
theorem kp_C0 : kp_C R h col 0 0 := ⟨Nat.zero_le _, ac_self kp_0⟩
theorem kp_Cs (hC : kp_C R h col y m) (hN : kp_N R h m (col y) m') : kp_C R h col (y + 1) m' := ⟨hN.1, ac_step kp_cl hC.2 hN.2⟩
theorem kp_Cle (hC : kp_C R h col y m) : m ≤ y := by
  have := hC.2.2.1.length_le
  rwa [ac_rl_len, ac_rl_len] at this
theorem kp_Cend (hC : kp_C R h col y m) : m = h ↔ h ≤ y ∧ ∀ i, i < h → R i = col (y - h + i) := by
  rw [← ac_rl_pre]
  constructor
  · rintro rfl; exact hC.2.2.1
  · intro hp
    have := (hC.2.2.2 _ ⟨h, Nat.le_refl _, rfl⟩ hp).length_le
    rw [ac_rl_len, ac_rl_len] at this
    exact Nat.le_antisymm hC.1 this
end
end
section
/-! the trie of the rows: wd n is the word of node n, its last letter first -/
def tr_T (nc : Nat) (tb : Nat → Int32) (wd : Nat → List Int32) : Prop :=
  1 ≤ nc ∧ wd 0 = [] ∧
  (∀ n c, n < nc → c < 3 → ∃ m, m < nc ∧ tb (3 * n + c) = nI m ∧ (m ≠ 0 → wd m = nI c :: wd n)) ∧
  (∀ m, m < nc → m ≠ 0 → ∃ n c, n < nc ∧ c < 3 ∧ tb (3 * n + c) = nI m) ∧
  (∀ a b, a < nc → b < nc → wd a = wd b → a = b) ∧
  (∀ n c, nc ≤ n → n < 49 → c < 3 → tb (3 * n + c) = 0)
def tr_S (nc : Nat) (wd : Nat → List Int32) : List Int32 → Prop := fun l => ∃ n, n < nc ∧ wd n = l
theorem tr_inj3 {a b : Nat} (h : nI a = nI b) (ha : a < 49) (hb : b < 49) : a = b := (nI_eq (by omega) (by omega)).mp h
theorem tr_ix3 {n c n' c' : Nat} (hc : c < 3) (hc' : c' < 3) (h : 3 * n + c = 3 * n' + c') : n = n' ∧ c = c' := ⟨by omega, by omega⟩
section
variable {nc : Nat} {tb : Nat → Int32} {wd : Nat → List Int32} {n c m : Nat}
theorem tr_ch (T : tr_T nc tb wd) (hnc : nc ≤ 49) (hn : n < nc) (hc : c < 3) (hm : m < nc) (hm0 : m ≠ 0) (h : tb (3 * n + c) = nI m) : wd m = nI c :: wd n := by
  obtain ⟨k, hk, e, hw⟩ := T.2.2.1 n c hn hc
  have : k = m := tr_inj3 (e.symm.trans h) (by omega) (by omega)
  subst this
  exact hw hm0
theorem tr_par (T : tr_T nc tb wd) (hnc : nc ≤ 49) (hm : m < nc) (hm0 : m ≠ 0) : ∃ n c, n < nc ∧ c < 3 ∧ tb (3 * n + c) = nI m ∧ wd m = nI c :: wd n := by
  obtain ⟨n, c, hn, hc, e⟩ := T.2.2.2.1 m hm hm0
  exact ⟨n, c, hn, hc, e, tr_ch T hnc hn hc hm hm0 e⟩
theorem tr_ne (T : tr_T nc tb wd) (hn : n < nc) (h0 : n ≠ 0) : wd n ≠ [] := fun e => h0 (T.2.2.2.2.1 n 0 hn (by have := T.1; omega) (e.trans T.2.1.symm))
theorem tr_S0 (T : tr_T nc tb wd) : tr_S nc wd [] := ⟨0, by have := T.1; omega, T.2.1⟩
theorem tr_Sn (hn : n < nc) : tr_S nc wd (wd n) := ⟨n, hn, rfl⟩
theorem tr_nz (T : tr_T nc tb wd) (hm : wd m = nI c :: wd n) : m ≠ 0 := by
  intro z
  subst z
  rw [T.2.1] at hm
  exact absurd hm.symm (List.cons_ne_nil _ _)
theorem tr_Scl (T : tr_T nc tb wd) (hnc : nc ≤ 49) : ∀ c u, tr_S nc wd (c :: u) → tr_S nc wd u := by
  rintro c u ⟨n, hn, e⟩
  have h0 : n ≠ 0 := by
    intro z
    subst z
    rw [T.2.1] at e
    exact absurd e.symm (List.cons_ne_nil _ _)
  obtain ⟨n', c', hn', hc', -, e2⟩ := tr_par T hnc hn h0
  exact ⟨n', hn', (List.cons.inj (e2.symm.trans e)).2⟩
theorem tr_uniq (T : tr_T nc tb wd) {n' c' : Nat} (hn : n < nc) (hn' : n' < nc) (hc : c < 3) (hc' : c' < 3) (h : nI c :: wd n = nI c' :: wd n') : n = n' ∧ c = c' := by
  obtain ⟨h1, h2⟩ := List.cons.inj h
  exact ⟨T.2.2.2.2.1 n n' hn hn' h2, tr_inj3 h1 (by omega) (by omega)⟩
theorem tr_noch (T : tr_T nc tb wd) (hnc : nc ≤ 49) (hn : n < nc) (hc : c < 3) (h : tb (3 * n + c) = 0) : ¬ tr_S nc wd (nI c :: wd n) := by
  rintro ⟨m, hm, e⟩
  have hm0 := tr_nz T e
  obtain ⟨n', c', hn', hc', e1, e2⟩ := tr_par T hnc hm hm0
  obtain ⟨h1, h2⟩ := tr_uniq T hn hn' hc hc' (e.symm.trans e2)
  subst h1 h2
  exact hm0 (tr_inj3 (e1.symm.trans h) (by omega) (by omega))
def tr_wd (wd : Nat → List Int32) (k : Nat) (l : List Int32) : Nat → List Int32 := fun j => if j = k then l else wd j
theorem tr_wds {k : Nat} {l : List Int32} : tr_wd wd k l k = l := if_pos rfl
theorem tr_wdn {k j : Nat} {l : List Int32} (h : j ≠ k) : tr_wd wd k l j = wd j := if_neg h
theorem tr_new (T : tr_T nc tb wd) (hnc : nc < 49) (hn : n < nc) (hc : c < 3) (hz : tb (3 * n + c) = 0) :
    tr_T (nc + 1) (upd tb (3 * n + c) (nI nc)) (tr_wd wd nc (nI c :: wd n)) := by
  have h1 := T.1
  have hfr : ∀ m, m < nc → wd m ≠ nI c :: wd n := fun m hm e => tr_noch T (by omega) hn hc hz ⟨m, hm, e⟩
  refine ⟨by omega, (tr_wdn (by omega)).trans T.2.1, ?_, ?_, ?_, ?_⟩
  · intro n' c' hn' hc'
    by_cases z : 3 * n' + c' = 3 * n + c
    · obtain ⟨z1, z2⟩ := tr_ix3 hc' hc z
      subst z1 z2
      exact ⟨nc, by omega, pk_us, fun _ => by rw [tr_wds, tr_wdn (by omega)]⟩
    · rw [pk_un z]
      by_cases y : n' = nc
      · subst y
        exact ⟨0, by omega, T.2.2.2.2.2 n' c' (Nat.le_refl _) hnc hc', fun w => absurd rfl w⟩
      · obtain ⟨m, hm, e, hw⟩ := T.2.2.1 n' c' (by omega) hc'
        refine ⟨m, by omega, e, fun w => ?_⟩
        rw [tr_wdn (by omega), tr_wdn y]
        exact hw w
  · intro m hm hm0
    by_cases y : m = nc
    · subst y
      exact ⟨n, c, by omega, hc, pk_us⟩
    · obtain ⟨n', c', hn', hc', e⟩ := T.2.2.2.1 m (by omega) hm0
      refine ⟨n', c', by omega, hc', ?_⟩
      rw [pk_un]
      · exact e
      · intro z
        rw [z, hz] at e
        exact hm0 (tr_inj3 (e.symm.trans nI_0.symm) (by omega) (by omega))
  · intro a b ha hb e
    by_cases y : a = nc
    · by_cases x : b = nc
      · exact y.trans x.symm
      · rw [y, tr_wds, tr_wdn x] at e
        exact absurd e.symm (hfr b (by omega))
    · by_cases x : b = nc
      · rw [x, tr_wds, tr_wdn y] at e
        exact absurd e (hfr a (by omega))
      · rw [tr_wdn x, tr_wdn y] at e
        exact T.2.2.2.2.1 a b (by omega) (by omega) e
  · intro n' c' hn' h49 hc'
    rw [pk_un (by omega)]
    exact T.2.2.2.2.2 n' c' (by omega) h49 hc'
theorem tr_init {a : Nat → Int32} (h : ∀ k, k < 147 → a k = 0) : tr_T 1 a (fun _ => []) := by
  refine ⟨Nat.le_refl _, rfl, ?_, ?_, ?_, ?_⟩
  · intro n c hn hc
    exact ⟨0, by omega, h _ (by omega), fun z => absurd rfl z⟩
  · intro m hm h0; omega
  · intro a b ha hb _; omega
  · intro n c hn h49 hc
    exact h _ (by omega)
end
/-! row endings: re (49 p + n) is the number of the row that node n's word is, -1 if it is none; rn (4 p + i): the number of row i -/
def tr_E (nc : Nat) (wd : Nat → List Int32) (re : Nat → Int32) (H : Nat → Nat) (pr : Nat → Nat → List Int32) : Prop :=
  ∀ p n, p < 3 → n < 49 → re (49 * p + n) = -1 ∨ (n < nc ∧ ∃ i, i < H p ∧ re (49 * p + n) = nI i ∧ wd n = pr p i)
def tr_N (nc : Nat) (wd : Nat → List Int32) (re rn : Nat → Int32) (pr : Nat → Nat → List Int32) (P : Nat → Nat → Prop) : Prop :=
  ∀ p i, p < 3 → i < 4 → P p i → ∃ n, n < nc ∧ n < 49 ∧ wd n = pr p i ∧ rn (4 * p + i) = re (49 * p + n) ∧ re (49 * p + n) ≠ -1
theorem tr_m1 {i : Nat} (h : i < 2 ^ 31) : nI i ≠ -1 := by
  intro e
  have h1 := congrArg Int32.toInt e
  rw [nI_toInt h, show ((-1 : Int32)).toInt = -1 from by decide] at h1
  omega
theorem tr_m1' : ¬ (0 : Int32) ≤ -1 := by decide
section
variable {nc : Nat} {tb re rn : Nat → Int32} {wd : Nat → List Int32} {n c m : Nat} {H : Nat → Nat} {pr : Nat → Nat → List Int32} {P : Nat → Nat → Prop}
theorem tr_E_new {l : List Int32} (E : tr_E nc wd re H pr) : tr_E (nc + 1) (tr_wd wd nc l) re H pr := by
  intro p n hp hn
  rcases E p n hp hn with h | ⟨h1, i, h2, h3, h4⟩
  · exact Or.inl h
  · exact Or.inr ⟨by omega, i, h2, h3, (tr_wdn (by omega)).trans h4⟩
theorem tr_N_new {l : List Int32} (N : tr_N nc wd re rn pr P) : tr_N (nc + 1) (tr_wd wd nc l) re rn pr P := by
  intro p i hp hi hP
  obtain ⟨n, h1, h49, h2, h3, h4⟩ := N p i hp hi hP
  exact ⟨n, by omega, h49, (tr_wdn (by omega)).trans h2, h3, h4⟩
/-- the row ends at node n, and n has a number already -/
theorem tr_end1 {p i : Nat} (N : tr_N nc wd re rn pr P) (hp : p < 3) (hi : i < 4) (hn : n < nc) (h49 : n < 49) (hw : wd n = pr p i) (hr : re (49 * p + n) ≠ -1) :
    tr_N nc wd re (upd rn (4 * p + i) (re (49 * p + n))) pr (fun p' i' => P p' i' ∨ (p' = p ∧ i' = i)) := by
  intro p' i' hp' hi' hP
  by_cases z : 4 * p' + i' = 4 * p + i
  · have z1 : p' = p := by omega
    have z2 : i' = i := by omega
    subst z1 z2
    exact ⟨n, hn, h49, hw, pk_us, hr⟩
  · rw [pk_un z]
    rcases hP with hP | ⟨h1, h2⟩
    · exact N p' i' hp' hi' hP
    · subst h1 h2; exact absurd rfl z
/-- and n has no number yet -/
theorem tr_end2 {p i : Nat} (E : tr_E nc wd re H pr) (N : tr_N nc wd re rn pr P) (hp : p < 3) (hi : i < 4) (hH : i < H p) (hn : n < nc) (h49 : n < 49) (hw : wd n = pr p i) (hr : re (49 * p + n) = -1) :
    tr_E nc wd (upd re (49 * p + n) (nI i)) H pr ∧ tr_N nc wd (upd re (49 * p + n) (nI i)) (upd rn (4 * p + i) (nI i)) pr (fun p' i' => P p' i' ∨ (p' = p ∧ i' = i)) := by
  constructor
  · intro p' n' hp' hn'
    by_cases z : 49 * p' + n' = 49 * p + n
    · have z1 : p' = p := by omega
      have z2 : n' = n := by omega
      subst z1 z2
      exact Or.inr ⟨hn, i, hH, pk_us, hw⟩
    · rw [pk_un z]
      exact E p' n' hp' hn'
  · intro p' i' hp' hi' hP
    by_cases z : 4 * p' + i' = 4 * p + i
    · have z1 : p' = p := by omega
      have z2 : i' = i := by omega
      subst z1 z2
      exact ⟨n, hn, h49, hw, by rw [pk_us, pk_us], by rw [pk_us]; exact tr_m1 (by omega)⟩
    · rw [pk_un z]
      rcases hP with hP | ⟨h1, h2⟩
      · obtain ⟨n', g1, g49, g2, g3, g4⟩ := N p' i' hp' hi' hP
        have y : 49 * p' + n' ≠ 49 * p + n := by
          intro y
          have y1 : p' = p := by omega
          have y2 : n' = n := by omega
          subst y1 y2
          exact g4 hr
        exact ⟨n', g1, g49, g2, by rw [pk_un y]; exact g3, by rw [pk_un y]; exact g4⟩
      · subst h1 h2; exact absurd rfl z
end
end
section
/-! linking the nodes, from short words to long ones -/
def ac_cl (a : Nat → Int32) (i : Nat) : Nat := (a i).toNatClampNeg
theorem ac_cls {a : Nat → Int32} {k m : Nat} (h : m < 2 ^ 31) : ac_cl (upd a k (nI m)) k = m := by
  unfold ac_cl; rw [pk_us]; exact nI_clamp h
theorem ac_cln {a : Nat → Int32} {k j : Nat} {x : Int32} (h : j ≠ k) : ac_cl (upd a k x) j = ac_cl a j := by
  unfold ac_cl; rw [pk_un h]
/-- Pd: the couples (node, letter) that are done; nq: the queue of e nodes -/
def ln_I (nc : Nat) (tb : Nat → Int32) (wd : Nat → List Int32) (Pd : Nat → Nat → Prop) (e : Nat) (br fb nq : Nat → Int32) : Prop :=
  (∀ i, i < e → 0 < ac_cl nq i ∧ ac_cl nq i < nc ∧ nq i = nI (ac_cl nq i)) ∧
  (∀ i j, i < e → j < e → ac_cl nq i = ac_cl nq j → i = j) ∧
  (∀ n c, n < nc → c < 3 → Pd n c → ∃ m, m < nc ∧ br (3 * n + c) = nI m ∧ ac_L (tr_S nc wd) (nI c :: wd n) (wd m)) ∧
  (∀ n c, n < nc → c < 3 → ¬ Pd n c → br (3 * n + c) = tb (3 * n + c)) ∧
  (∀ n c m, n < nc → c < 3 → m < nc → m ≠ 0 → Pd n c → tb (3 * n + c) = nI m → ∃ i, i < e ∧ ac_cl nq i = m) ∧
  (∀ i, i < e → ∃ n c, n < nc ∧ c < 3 ∧ Pd n c ∧ tb (3 * n + c) = nI (ac_cl nq i)) ∧
  (∀ i, i < e → ∃ f, f < nc ∧ fb (ac_cl nq i) = nI f ∧ ac_L (tr_S nc wd) (wd (ac_cl nq i)).dropLast (wd f))
/-- the order of the queue: a is the place of the node at hand, its word has L letters -/
def ln_O (wd : Nat → List Int32) (a e L : Nat) (nq : Nat → Int32) : Prop :=
  (∀ i j, i < j → j < e → (wd (ac_cl nq i)).length ≤ (wd (ac_cl nq j)).length) ∧
  (∀ j, j < e → (wd (ac_cl nq j)).length ≤ L + 1) ∧
  (∀ j, a ≤ j → j < e → L ≤ (wd (ac_cl nq j)).length)
section
variable {nc : Nat} {tb br fb nq : Nat → Int32} {wd : Nat → List Int32} {n c m e f : Nat} {Pd Pd' : Nat → Nat → Prop}
theorem ln_congr (I : ln_I nc tb wd Pd e br fb nq) (h : ∀ n c, n < nc → c < 3 → (Pd' n c ↔ Pd n c)) : ln_I nc tb wd Pd' e br fb nq := by
  obtain ⟨i1, i2, i3, i4, i5, i6, i7⟩ := I
  refine ⟨i1, i2, fun n c hn hc hP => i3 n c hn hc ((h n c hn hc).mp hP), fun n c hn hc hP => i4 n c hn hc (fun z => hP ((h n c hn hc).mpr z)), fun n c m hn hc hm h0 hP => i5 n c m hn hc hm h0 ((h n c hn hc).mp hP), fun i hi => ?_, i7⟩
  obtain ⟨n, c, hn, hc, hP, e⟩ := i6 i hi
  exact ⟨n, c, hn, hc, (h n c hn hc).mpr hP, e⟩
theorem ln_card (I : ln_I nc tb wd Pd e br fb nq) : e + 1 ≤ nc ∨ e = 0 := by
  by_cases z : e = 0
  · exact Or.inr z
  · have hnd : ((List.range e).map (ac_cl nq)).Nodup := by
      rw [List.nodup_iff_pairwise_ne, List.pairwise_map]
      refine List.Pairwise.imp_of_mem ?_ (List.nodup_iff_pairwise_ne.mp List.nodup_range)
      intro a b ha hb hab e1
      exact hab (I.2.1 a b (List.mem_range.mp ha) (List.mem_range.mp hb) e1)
    have hsub : ((List.range e).map (ac_cl nq)) ⊆ (List.range nc).erase 0 := by
      intro x hx
      obtain ⟨i, hi, rfl⟩ := List.mem_map.mp hx
      obtain ⟨h1, h2, -⟩ := I.1 i (List.mem_range.mp hi)
      exact (List.mem_erase_of_ne (by omega)).mpr (List.mem_range.mpr h2)
    have h3 := hnd.length_le_of_subset hsub
    have h0 : 0 < nc := by
      obtain ⟨h1, h2, -⟩ := I.1 0 (by omega)
      omega
    rw [List.length_map, List.length_range, List.length_erase_of_mem (List.mem_range.mpr h0), List.length_range] at h3
    exact Or.inl (by omega)
theorem ln_child (T : tr_T nc tb wd) (hnc : nc ≤ 49) (I : ln_I nc tb wd Pd e br fb nq) (hn : n < nc) (hc : c < 3) (hP : ¬ Pd n c) (hm : m < nc) (hm0 : m ≠ 0) (htb : tb (3 * n + c) = nI m) (hf : f < nc) (hL : ac_L (tr_S nc wd) (wd m).dropLast (wd f)) :
    ln_I nc tb wd (fun n' c' => Pd n' c' ∨ (n' = n ∧ c' = c)) (e + 1) br (upd fb m (nI f)) (upd nq e (nI m)) := by
  obtain ⟨i1, i2, i3, i4, i5, i6, i7⟩ := I
  have hwm := tr_ch T hnc hn hc hm hm0 htb
  have fresh : ∀ i, i < e → ac_cl nq i ≠ m := by
    intro i hi z
    obtain ⟨n', c', hn', hc', hP', e'⟩ := i6 i hi
    rw [z] at e'
    obtain ⟨h1, h2⟩ := tr_uniq T hn' hn hc' hc ((tr_ch T hnc hn' hc' hm hm0 e').symm.trans hwm)
    subst h1 h2
    exact hP hP'
  have qs : ac_cl (upd nq e (nI m)) e = m := ac_cls (by omega)
  have qn : ∀ i, i < e → ac_cl (upd nq e (nI m)) i = ac_cl nq i := fun i hi => ac_cln (by omega)
  refine ⟨?_, ?_, ?_, ?_, ?_, ?_, ?_⟩
  · intro i hi
    by_cases z : i = e
    · subst z; rw [qs]; exact ⟨by omega, hm, pk_us⟩
    · rw [qn i (by omega), pk_un z]; exact i1 i (by omega)
  · intro i j hi hj h
    by_cases z : i = e
    · by_cases y : j = e
      · exact z.trans y.symm
      · rw [z, qs, qn j (by omega)] at h
        exact absurd h.symm (fresh j (by omega))
    · by_cases y : j = e
      · rw [y, qs, qn i (by omega)] at h
        exact absurd h (fresh i (by omega))
      · rw [qn i (by omega), qn j (by omega)] at h
        exact i2 i j (by omega) (by omega) h
  · intro n' c' hn' hc' h
    by_cases z : Pd n' c'
    · exact i3 n' c' hn' hc' z
    · rcases h with h | ⟨h1, h2⟩
      · exact absurd h z
      · subst h1 h2
        refine ⟨m, hm, (i4 n' c' hn hc z).trans htb, ?_⟩
        rw [← hwm]
        exact ac_self (tr_Sn hm)
  · intro n' c' hn' hc' h
    exact i4 n' c' hn' hc' (fun z => h (Or.inl z))
  · intro n' c' m' hn' hc' hm' h0' h hb
    by_cases z : Pd n' c'
    · obtain ⟨i, hi, e1⟩ := i5 n' c' m' hn' hc' hm' h0' z hb
      exact ⟨i, by omega, (qn i hi).trans e1⟩
    · rcases h with h | ⟨h1, h2⟩
      · exact absurd h z
      · subst h1 h2
        exact ⟨e, by omega, qs.trans (tr_inj3 (htb.symm.trans hb) (by omega) (by omega))⟩
  · intro i hi
    by_cases z : i = e
    · subst z; rw [qs]; exact ⟨n, c, hn, hc, Or.inr ⟨rfl, rfl⟩, htb⟩
    · rw [qn i (by omega)]
      obtain ⟨n', c', hn', hc', hP', e'⟩ := i6 i (by omega)
      exact ⟨n', c', hn', hc', Or.inl hP', e'⟩
  · intro i hi
    by_cases z : i = e
    · subst z; rw [qs]; exact ⟨f, hf, pk_us, hL⟩
    · rw [qn i (by omega), pk_un (fresh i (by omega))]; exact i7 i (by omega)
theorem ln_none {br' : Nat → Int32} {o : Nat} (I : ln_I nc tb wd Pd e br fb nq) (hP : ¬ Pd n c) (hz : tb (3 * n + c) = 0) (hc : c < 3) (ho : o < nc) (hnc : nc ≤ 49) (hL : ac_L (tr_S nc wd) (nI c :: wd n) (wd o)) (hb : br' (3 * n + c) = nI o) (hb' : ∀ k, k ≠ 3 * n + c → br' k = br k) :
    ln_I nc tb wd (fun n' c' => Pd n' c' ∨ (n' = n ∧ c' = c)) e br' fb nq := by
  obtain ⟨i1, i2, i3, i4, i5, i6, i7⟩ := I
  refine ⟨i1, i2, ?_, ?_, ?_, ?_, i7⟩
  · intro n' c' hn' hc' h
    by_cases z : n' = n ∧ c' = c
    · obtain ⟨h1, h2⟩ := z
      subst h1 h2
      exact ⟨o, ho, hb, hL⟩
    · rcases h with h | h
      · rw [hb' _ (fun y => z (tr_ix3 hc' hc y))]
        exact i3 n' c' hn' hc' h
      · exact absurd h z
  · intro n' c' hn' hc' h
    rw [hb' _ (fun y => h (Or.inr (tr_ix3 hc' hc y)))]
    exact i4 n' c' hn' hc' (fun z => h (Or.inl z))
  · intro n' c' m' hn' hc' hm' h0' h hb2
    rcases h with h | ⟨h1, h2⟩
    · exact i5 n' c' m' hn' hc' hm' h0' h hb2
    · subst h1 h2
      exact absurd (tr_inj3 (hb2.symm.trans (hz.trans nI_0.symm)) (by omega) (by omega)) h0'
  · intro i hi
    obtain ⟨n', c', hn', hc', hP', e'⟩ := i6 i hi
    exact ⟨n', c', hn', hc', Or.inl hP', e'⟩
theorem ln_O_add {a L : Nat} (hO : ln_O wd a e L nq) (hm31 : m < 2 ^ 31) (hm : (wd m).length = L + 1) : ln_O wd a (e + 1) L (upd nq e (nI m)) := by
  obtain ⟨o1, o2, o3⟩ := hO
  have qs : ac_cl (upd nq e (nI m)) e = m := ac_cls hm31
  have qn : ∀ i, i < e → ac_cl (upd nq e (nI m)) i = ac_cl nq i := fun i hi => ac_cln (by omega)
  refine ⟨?_, ?_, ?_⟩
  · intro i j hij hj
    by_cases z : j = e
    · subst z; rw [qs, qn i (by omega), hm]; exact o2 i (by omega)
    · rw [qn i (by omega), qn j (by omega)]; exact o1 i j hij (by omega)
  · intro j hj
    by_cases z : j = e
    · subst z; rw [qs, hm]; exact Nat.le_refl _
    · rw [qn j (by omega)]; exact o2 j (by omega)
  · intro j haj hj
    by_cases z : j = e
    · subst z; rw [qs, hm]; exact Nat.le_succ _
    · rw [qn j (by omega)]; exact o3 j haj (by omega)
theorem ln_O_next {a L : Nat} (hO : ln_O wd a e L nq) (h : a < e) : ln_O wd a e (wd (ac_cl nq a)).length nq := by
  obtain ⟨o1, o2, o3⟩ := hO
  refine ⟨o1, fun j hj => ?_, fun j haj hj => ?_⟩
  · have := o2 j hj
    have := o3 a (Nat.le_refl _) h
    omega
  · rcases Nat.lt_or_ge a j with z | z
    · exact o1 a j z hj
    · have : j = a := by omega
      subst this; exact Nat.le_refl _
theorem ln_O_up {a L : Nat} (hO : ln_O wd a e L nq) : ln_O wd (a + 1) e L nq := ⟨hO.1, hO.2.1, fun j h1 h2 => hO.2.2 j (by omega) h2⟩
/-- the nodes that are done at place a of the queue -/
def ln_D (nq : Nat → Int32) (a : Nat) (n : Nat) : Prop := n = 0 ∨ ∃ i, i < a ∧ ac_cl nq i = n
/-- every node with a shorter word is done -/
theorem ln_short {a L : Nat} (T : tr_T nc tb wd) (hnc : nc ≤ 49) (I : ln_I nc tb wd Pd e br fb nq) (hO : ln_O wd a e L nq) (hD : ∀ n c, n < nc → c < 3 → ln_D nq a n → Pd n c) :
    ∀ k m, m < nc → (wd m).length = k → k < L → ln_D nq a m := by
  intro k
  induction k with
  | zero =>
    intro m hm hk _
    exact Or.inl (T.2.2.2.2.1 m 0 hm (by have := T.1; omega) ((List.eq_nil_of_length_eq_zero hk).trans T.2.1.symm))
  | succ k ih =>
    intro m hm hk hL
    have h0 : m ≠ 0 := by
      intro z
      rw [z, T.2.1] at hk
      exact absurd hk (by simp)
    obtain ⟨n, c, hn, hc, e1, e2⟩ := tr_par T hnc hm h0
    have hk2 : (wd n).length = k := by
      rw [e2, List.length_cons] at hk; omega
    have hd := hD n c hn hc (ih n hn hk2 (by omega))
    obtain ⟨i, hi, e3⟩ := I.2.2.2.2.1 n c m hn hc hm h0 hd e1
    rcases Nat.lt_or_ge i a with z | z
    · exact Or.inr ⟨i, z, e3⟩
    · have := hO.2.2 i z hi
      rw [e3, hk] at this
      omega
/-- at the end every node is done -/
theorem ln_all (T : tr_T nc tb wd) (hnc : nc ≤ 49) (I : ln_I nc tb wd Pd e br fb nq) (hD : ∀ n c, n < nc → c < 3 → ln_D nq e n → Pd n c) :
    ∀ k m, m < nc → (wd m).length = k → ln_D nq e m := by
  intro k
  induction k with
  | zero =>
    intro m hm hk
    exact Or.inl (T.2.2.2.2.1 m 0 hm (by have := T.1; omega) ((List.eq_nil_of_length_eq_zero hk).trans T.2.1.symm))
  | succ k ih =>
    intro m hm hk
    have h0 : m ≠ 0 := by
      intro z
      rw [z, T.2.1] at hk
      exact absurd hk (by simp)
    obtain ⟨n, c, hn, hc, e1, e2⟩ := tr_par T hnc hm h0
    have hk2 : (wd n).length = k := by
      rw [e2, List.length_cons] at hk; omega
    obtain ⟨i, hi, e3⟩ := I.2.2.2.2.1 n c m hn hc hm h0 (hD n c hn hc (ih n hn hk2)) e1
    exact Or.inr ⟨i, hi, e3⟩
end
/-! the row numbers that nodes inherit -/
def ln_G (nc : Nat) (wd : Nat → List Int32) (re0 : Nat → Int32) (p n : Nat) (v : Int32) : Prop :=
  (v = -1 ∧ ∀ n', n' < nc → wd n' <+: wd n → re0 (49 * p + n') = -1) ∨ (v ≠ -1 ∧ ∃ n', n' < nc ∧ wd n' <+: wd n ∧ re0 (49 * p + n') = v)
def ln_R (nc : Nat) (wd : Nat → List Int32) (re0 re : Nat → Int32) (Q : Nat → Nat → Prop) : Prop :=
  ∀ p n, p < 3 → n < nc → (Q p n → ln_G nc wd re0 p n (re (49 * p + n))) ∧ (¬ Q p n → re (49 * p + n) = re0 (49 * p + n))
section
variable {nc : Nat} {tb re0 re : Nat → Int32} {wd : Nat → List Int32} {n f p : Nat} {Q Q' : Nat → Nat → Prop}
theorem ln_R_congr (I : ln_R nc wd re0 re Q) (h : ∀ p n, p < 3 → n < nc → (Q' p n ↔ Q p n)) : ln_R nc wd re0 re Q' := by
  intro p n hp hn
  obtain ⟨a, b⟩ := I p n hp hn
  exact ⟨fun z => a ((h p n hp hn).mp z), fun z => b (fun y => z ((h p n hp hn).mpr y))⟩
theorem ln_R0 (T : tr_T nc tb wd) : ln_R nc wd re0 re0 (fun _ n => n = 0) := by
  intro p n hp hn
  refine ⟨fun z => ?_, fun _ => rfl⟩
  subst z
  have key : ∀ n', n' < nc → wd n' <+: wd 0 → n' = 0 := by
    intro n' hn' hp'
    rw [T.2.1] at hp'
    exact T.2.2.2.2.1 n' 0 hn' hn ((List.prefix_nil.mp hp').trans T.2.1.symm)
  by_cases h : re0 (49 * p + 0) = -1
  · exact Or.inl ⟨h, fun n' hn' hp' => by rw [key n' hn' hp']; exact h⟩
  · exact Or.inr ⟨h, 0, hn, List.prefix_rfl, rfl⟩
/-- node n has a number of its own -/
theorem ln_own (I : ln_R nc wd re0 re Q) (hp : p < 3) (hn : n < nc) (hQ : ¬ Q p n) (h : re (49 * p + n) ≠ -1) : ln_R nc wd re0 re (fun p' n' => Q p' n' ∨ (p' = p ∧ n' = n)) := by
  intro p' n' hp' hn'
  obtain ⟨a, b⟩ := I p' n' hp' hn'
  refine ⟨fun z => ?_, fun z => b (fun y => z (Or.inl y))⟩
  rcases z with z | ⟨z1, z2⟩
  · exact a z
  · subst z1 z2
    exact Or.inr ⟨h, n', hn, List.prefix_rfl, (b hQ).symm⟩
/-- node n inherits that of f -/
theorem ln_inh (T : tr_T nc tb wd) (hnc : nc ≤ 49) (I : ln_R nc wd re0 re Q) (hp : p < 3) (hn : n < nc) (hQ : ¬ Q p n) (h : re (49 * p + n) = -1) (hf : f < nc) (hQf : Q p f) (hL : ac_L (tr_S nc wd) (wd n).dropLast (wd f)) :
    ln_R nc wd re0 (upd re (49 * p + n) (re (49 * p + f))) (fun p' n' => Q p' n' ∨ (p' = p ∧ n' = n)) := by
  intro p' n' hp' hn'
  obtain ⟨a, b⟩ := I p' n' hp' hn'
  by_cases z : 49 * p' + n' = 49 * p + n
  · have z1 : p' = p := by omega
    have z2 : n' = n := by omega
    subst z1 z2
    rw [pk_us]
    refine ⟨fun _ => ?_, fun y => absurd (Or.inr ⟨rfl, rfl⟩) y⟩
    have e0 : re0 (49 * p' + n') = -1 := (b hQ).symm.trans h
    rcases (I p' f hp hf).1 hQf with ⟨h1, h2⟩ | ⟨h1, k, hk, h2, h3⟩
    · refine Or.inl ⟨h1, fun k hk hkp => ?_⟩
      by_cases y : wd k = wd n'
      · rw [T.2.2.2.2.1 k n' hk hn y]; exact e0
      · exact h2 k hk (hL.2.2 _ (tr_Sn hk) (ac_pre_dl hkp y))
    · exact Or.inr ⟨h1, k, hk, (h2.trans hL.2.1).trans (List.dropLast_prefix _), h3⟩
  · rw [pk_un z]
    refine ⟨fun y => ?_, fun y => b (fun w => y (Or.inl w))⟩
    rcases y with y | ⟨y1, y2⟩
    · exact a y
    · subst y1 y2; exact absurd rfl z
end
/-! what the automaton is at the end -/
def au_A (nc : Nat) (wd : Nat → List Int32) (br re rn : Nat → Int32) (H : Nat → Nat) (pr : Nat → Nat → List Int32) : Prop :=
  1 ≤ nc ∧ nc ≤ 49 ∧ wd 0 = [] ∧ (∀ c u, tr_S nc wd (c :: u) → tr_S nc wd u) ∧
  (∀ n c, n < nc → c < 3 → ∃ m, m < nc ∧ br (3 * n + c) = nI m ∧ ac_L (tr_S nc wd) (nI c :: wd n) (wd m)) ∧
  (∀ p i, p < 3 → i < H p → tr_S nc wd (pr p i)) ∧
  (∀ p n i, p < 3 → n < nc → i < H p → (re (49 * p + n) = rn (4 * p + i) ↔ pr p i <+: wd n)) ∧
  (∀ p n, p < 3 → n < nc → re (49 * p + n) = -1 ∨ ∃ i, i < 4 ∧ re (49 * p + n) = nI i)
theorem au_mk {nc : Nat} {tb br re0 re rn : Nat → Int32} {wd : Nat → List Int32} {H W : Nat → Nat} {pr : Nat → Nat → List Int32}
    (T : tr_T nc tb wd) (hnc : nc ≤ 49) (hH : ∀ p, p < 3 → H p ≤ 4) (hlen : ∀ p i, (pr p i).length = W p) (E : tr_E nc wd re0 H pr) (N : tr_N nc wd re0 rn pr (fun p i => i < H p))
    (hb : ∀ n c, n < nc → c < 3 → ∃ m, m < nc ∧ br (3 * n + c) = nI m ∧ ac_L (tr_S nc wd) (nI c :: wd n) (wd m))
    (hr : ∀ p n, p < 3 → n < nc → ln_G nc wd re0 p n (re (49 * p + n))) : au_A nc wd br re rn H pr := by
  refine ⟨T.1, hnc, T.2.1, tr_Scl T hnc, hb, ?_, ?_, ?_⟩
  · intro p i hp hi
    obtain ⟨n, hn, -, hw, -⟩ := N p i hp (by have := hH p hp; omega) hi
    exact ⟨n, hn, hw⟩
  · intro p n i hp hn hi
    have hi4 : i < 4 := by have := hH p hp; omega
    obtain ⟨k, hk, -, hkw, hkr, hk1⟩ := N p i hp hi4 hi
    constructor
    · intro e
      rcases hr p n hp hn with ⟨h1, -⟩ | ⟨-, n', hn', h2, h3⟩
      · exact absurd (hkr.symm.trans (e.symm.trans h1)) hk1
      · have e1 : re0 (49 * p + n') = re0 (49 * p + k) := h3.trans (e.trans hkr)
        rcases E p n' hp (by omega) with g | ⟨-, i', hi', g1, g2⟩
        · exact absurd (e1.symm.trans g) hk1
        · rcases E p k hp (by omega) with g | ⟨-, i2, hi2, g3, g4⟩
          · exact absurd g hk1
          · have e2 : i' = i2 := tr_inj3 (g1.symm.trans (e1.trans g3)) (by have := hH p hp; omega) (by have := hH p hp; omega)
            subst e2
            rw [← hkw, g4, ← g2]
            exact h2
    · intro hpre
      rcases hr p n hp hn with ⟨-, h2⟩ | ⟨h1, n', hn', h2, h3⟩
      · exact absurd (h2 k hk (hkw ▸ hpre)) hk1
      · rcases E p n' hp (by omega) with g | ⟨-, i', hi', g1, g2⟩
        · exact absurd (h3.symm.trans g) h1
        · have e1 : wd n' = wd k := by
            rw [hkw]
            rw [g2] at h2 ⊢
            exact (List.prefix_of_prefix_length_le h2 hpre (by rw [hlen, hlen]; exact Nat.le_refl _)).eq_of_length (by rw [hlen, hlen])
          have e2 := T.2.2.2.2.1 n' k hn' hk e1
          subst e2
          rw [← h3, hkr]
  · intro p n hp hn
    rcases hr p n hp hn with ⟨h1, -⟩ | ⟨h1, n', hn', h2, h3⟩
    · exact Or.inl h1
    · rcases E p n' hp (by omega) with g | ⟨-, i', hi', g1, g2⟩
      · exact absurd (h3.symm.trans g) h1
      · exact Or.inr ⟨i', by have := hH p hp; omega, h3.symm.trans g1⟩
end
section
/-! sums of naturals, counts -/
def sg_s (f : Nat → Nat) : Nat → Nat
  | 0 => 0
  | n + 1 => sg_s f n + f n
noncomputable def sg_b (P : Prop) : Nat := @ite Nat P (Classical.propDecidable P) 1 0
theorem sg_bt {P : Prop} (h : P) : sg_b P = 1 := @if_pos P (Classical.propDecidable P) h Nat 1 0
theorem sg_bf {P : Prop} (h : ¬ P) : sg_b P = 0 := @if_neg P (Classical.propDecidable P) h Nat 1 0
theorem sg_bc {P Q : Prop} (h : P ↔ Q) : sg_b P = sg_b Q := congrArg sg_b (propext h)
theorem sg_band {P Q : Prop} : sg_b (P ∧ Q) = sg_b P * sg_b Q := by
  by_cases hP : P
  · by_cases hQ : Q
    · rw [sg_bt hP, sg_bt hQ, sg_bt ⟨hP, hQ⟩]
    · rw [sg_bf hQ, sg_bf (fun z => hQ z.2), Nat.mul_zero]
  · rw [sg_bf hP, sg_bf (fun z => hP z.1), Nat.zero_mul]
theorem sg_bit {b : Bool} {P : Prop} (h : b = true ↔ P) : b.toNat = sg_b P := by
  cases b
  · rw [sg_bf (fun z => Bool.noConfusion (h.mpr z))]; rfl
  · rw [sg_bt (h.mp rfl)]; rfl
section
variable {f g : Nat → Nat} {n m : Nat}
theorem sg_congr (h : ∀ i, i < n → f i = g i) : sg_s f n = sg_s g n := by
  induction n with
  | zero => rfl
  | succ n ih =>
    show sg_s f n + f n = sg_s g n + g n
    rw [ih (fun i hi => h i (by omega)), h n (by omega)]
theorem sg_zero (h : ∀ i, i < n → f i = 0) : sg_s f n = 0 := by
  induction n with
  | zero => rfl
  | succ n ih =>
    show sg_s f n + f n = 0
    rw [ih (fun i hi => h i (by omega)), h n (by omega)]
theorem sg_add : sg_s (fun i => f i + g i) n = sg_s f n + sg_s g n := by
  induction n with
  | zero => rfl
  | succ n ih =>
    show sg_s (fun i => f i + g i) n + (f n + g n) = (sg_s f n + f n) + (sg_s g n + g n)
    rw [ih]; omega
theorem sg_split : sg_s f (n + m) = sg_s f n + sg_s (fun i => f (n + i)) m := by
  induction m with
  | zero => rfl
  | succ m ih =>
    show sg_s f (n + m) + f (n + m) = sg_s f n + (sg_s (fun i => f (n + i)) m + f (n + m))
    rw [ih]; omega
theorem sg_tail (hnm : n ≤ m) (h : ∀ i, n ≤ i → i < m → f i = 0) : sg_s f m = sg_s f n := by
  obtain ⟨d, rfl⟩ : ∃ d, m = n + d := ⟨m - n, by omega⟩
  rw [sg_split, sg_zero (n := d) (fun i hi => h (n + i) (by omega) (by omega)), Nat.add_zero]
end
theorem sg_swap {f : Nat → Nat → Nat} {n m : Nat} : sg_s (fun i => sg_s (fun j => f i j) m) n = sg_s (fun j => sg_s (fun i => f i j) n) m := by
  induction n with
  | zero => exact (sg_zero (fun _ _ => rfl)).symm
  | succ n ih =>
    show sg_s (fun i => sg_s (fun j => f i j) m) n + sg_s (fun j => f n j) m = sg_s (fun j => sg_s (fun i => f i j) n + f n j) m
    rw [ih, sg_add]
theorem sg_grid {f : Nat → Nat} {k n : Nat} : sg_s f (k * n) = sg_s (fun y => sg_s (fun x => f (k * y + x)) k) n := by
  induction n with
  | zero => rfl
  | succ n ih =>
    rw [Nat.mul_succ, sg_split, ih]; rfl
theorem sg_c2 {a b c d : Nat} (h1 : a = c) (h2 : b = d) : a + b = c + d := by rw [h1, h2]
/-- a sum over a window -/
theorem sg_win {g : Nat → Nat} {n x : Nat} (hg : ∀ k, n ≤ k → g k = 0) : ∀ W, sg_s (fun k => if x ≤ k ∧ k < x + W then g k else 0) n = sg_s (fun a => g (x + a)) W := by
  intro W
  induction W with
  | zero =>
    exact sg_zero (fun i _ => if_neg (by omega))
  | succ W ih =>
    show _ = sg_s (fun a => g (x + a)) W + g (x + W)
    rw [← ih]
    have e1 : sg_s (fun k => if x ≤ k ∧ k < x + (W + 1) then g k else 0) n = sg_s (fun k => (if x ≤ k ∧ k < x + W then g k else 0) + (if k = x + W then g k else 0)) n := by
      apply sg_congr
      intro i _
      by_cases z : i = x + W
      · subst z
        rw [if_pos (by omega), if_neg (by omega), if_pos rfl, Nat.zero_add]
      · show (if x ≤ i ∧ i < x + (W + 1) then g i else 0) = (if x ≤ i ∧ i < x + W then g i else 0) + (if i = x + W then g i else 0)
        rw [if_neg z]
        by_cases y : x ≤ i ∧ i < x + W
        · rw [if_pos y, if_pos (by omega)]; rfl
        · rw [if_neg y, if_neg (by omega)]
    rw [e1, sg_add]
    refine sg_c2 rfl ?_
    by_cases y : x + W < n
    · have e2 : n = (x + W) + (n - (x + W)) := by omega
      rw [e2, sg_split, sg_zero (n := x + W) (fun i hi => if_neg (by omega)), Nat.zero_add]
      obtain ⟨d, hd⟩ : ∃ d, n - (x + W) = 1 + d := ⟨n - (x + W) - 1, by omega⟩
      rw [hd, sg_split, sg_zero (n := d) (fun i hi => if_neg (by omega))]
      show 0 + (if x + W = x + W then g (x + W) else 0) + 0 = g (x + W)
      rw [if_pos rfl]; omega
    · rw [hg _ (by omega)]
      exact sg_zero (fun i hi => if_neg (by omega))
/-- the whole grid of 12 rows, 16 to a row, of which h rows and 12 columns count -/
theorem sg_text {f : Nat → Nat} {o : Nat → Nat → Nat} {h : Nat} (hh : h ≤ 12) (e : ∀ x y, x < 16 → y < 12 → f (16 * y + x) = o x y) (z1 : ∀ x y, 12 ≤ x → x < 16 → o x y = 0) (z2 : ∀ x y, h ≤ y → y < 12 → o x y = 0) :
    sg_s f 192 = sg_s (fun y => sg_s (fun x => o x y) 12) h := by
  show sg_s f (16 * 12) = _
  rw [sg_grid, sg_tail hh (fun y h1 h2 => sg_zero (fun x hx => by rw [e x y hx h2, z2 x y h1 h2]))]
  apply sg_congr
  intro y hy
  rw [sg_tail (n := 12) (m := 16) (by omega) (fun x h1 h2 => by rw [e x y h2 (by omega), z1 x y h1 h2])]
  exact sg_congr (fun x hx => e x y (by omega) (by omega))
/-! couples that meet -/
/-- one couple of rows, d apart: f the upper one, g the lower one -/
theorem sg_pairs {F G : Nat → Prop} {d W B M : Nat} (hB : B ≤ M) (zF : ∀ x, B ≤ x → ¬ F x) (zG : ∀ x, B ≤ x → ¬ G x) :
    sg_s (fun x => sg_s (fun x2 => sg_b ((d = 0 → x < x2) ∧ x2 < x + W ∧ x < x2 + W ∧ F x ∧ G x2)) M) M
    = sg_s (fun a => (if d = 0 ∧ a = 0 then 0 else sg_s (fun x => sg_b (F x) * sg_b (G (x + a))) B) + (if d = 0 ∨ a = 0 then 0 else sg_s (fun x => sg_b (F (x + a)) * sg_b (G x)) B)) W := by
  have zf : ∀ x, B ≤ x → sg_b (F x) = 0 := fun x h => sg_bf (zF x h)
  have zg : ∀ x, B ≤ x → sg_b (G x) = 0 := fun x h => sg_bf (zG x h)
  have e1 : ∀ x x2, sg_b ((d = 0 → x < x2) ∧ x2 < x + W ∧ x < x2 + W ∧ F x ∧ G x2)
      = (if x ≤ x2 ∧ x2 < x + W then (if d = 0 ∧ x2 = x then 0 else sg_b (F x) * sg_b (G x2)) else 0) + (if x2 ≤ x ∧ x < x2 + W then (if d = 0 ∨ x = x2 then 0 else sg_b (F x) * sg_b (G x2)) else 0) := by
    intro x x2
    by_cases hc : (d = 0 → x < x2) ∧ x2 < x + W ∧ x < x2 + W
    · have e2 : sg_b ((d = 0 → x < x2) ∧ x2 < x + W ∧ x < x2 + W ∧ F x ∧ G x2) = sg_b (F x) * sg_b (G x2) := by
        rw [← sg_band]
        exact sg_bc ⟨fun z => z.2.2.2, fun z => ⟨hc.1, hc.2.1, hc.2.2, z⟩⟩
      rw [e2]
      by_cases h1 : x ≤ x2
      · rw [if_pos ⟨h1, hc.2.1⟩, if_neg (by intro z; have := hc.1 z.1; omega)]
        by_cases h2 : x2 ≤ x
        · rw [if_pos ⟨h2, hc.2.2⟩, if_pos (by omega), Nat.add_zero]
        · rw [if_neg (by omega), Nat.add_zero]
      · rw [if_neg (by omega), if_pos ⟨by omega, hc.2.2⟩, if_neg, Nat.zero_add]
        intro z
        rcases z with z | z
        · have := hc.1 z; omega
        · omega
    · rw [sg_bf (fun z => hc ⟨z.1, z.2.1, z.2.2.1⟩)]
      have k1 : (if x ≤ x2 ∧ x2 < x + W then (if d = 0 ∧ x2 = x then 0 else sg_b (F x) * sg_b (G x2)) else 0) = 0 := by
        by_cases h1 : x ≤ x2 ∧ x2 < x + W
        · rw [if_pos h1]
          apply if_pos
          apply Classical.byContradiction
          intro z
          exact hc ⟨fun y => by omega, by omega, by omega⟩
        · exact if_neg h1
      have k2 : (if x2 ≤ x ∧ x < x2 + W then (if d = 0 ∨ x = x2 then 0 else sg_b (F x) * sg_b (G x2)) else 0) = 0 := by
        by_cases h1 : x2 ≤ x ∧ x < x2 + W
        · rw [if_pos h1]
          apply if_pos
          apply Classical.byContradiction
          intro z
          exact hc ⟨fun y => by omega, by omega, by omega⟩
        · exact if_neg h1
      rw [k1, k2]
  have e3 : sg_s (fun x => sg_s (fun x2 => sg_b ((d = 0 → x < x2) ∧ x2 < x + W ∧ x < x2 + W ∧ F x ∧ G x2)) M) M
      = sg_s (fun x => sg_s (fun a => if d = 0 ∧ x + a = x then 0 else sg_b (F x) * sg_b (G (x + a))) W) M
      + sg_s (fun x2 => sg_s (fun a => if d = 0 ∨ x2 + a = x2 then 0 else sg_b (F (x2 + a)) * sg_b (G x2)) W) M := by
    have e4 : sg_s (fun x => sg_s (fun x2 => sg_b ((d = 0 → x < x2) ∧ x2 < x + W ∧ x < x2 + W ∧ F x ∧ G x2)) M) M
        = sg_s (fun x => sg_s (fun x2 => if x ≤ x2 ∧ x2 < x + W then (if d = 0 ∧ x2 = x then 0 else sg_b (F x) * sg_b (G x2)) else 0) M
          + sg_s (fun x2 => if x2 ≤ x ∧ x < x2 + W then (if d = 0 ∨ x = x2 then 0 else sg_b (F x) * sg_b (G x2)) else 0) M) M := by
      apply sg_congr
      intro x _
      rw [← sg_add]
      exact sg_congr (fun x2 _ => e1 x x2)
    rw [e4, sg_add]
    refine sg_c2 ?_ ?_
    · apply sg_congr
      intro x _
      exact sg_win (g := fun x2 => if d = 0 ∧ x2 = x then 0 else sg_b (F x) * sg_b (G x2)) (fun k hk => by
        show (if d = 0 ∧ k = x then 0 else sg_b (F x) * sg_b (G k)) = 0
        rw [zg k (by omega), Nat.mul_zero]; split <;> rfl) W
    · rw [sg_swap]
      apply sg_congr
      intro x2 _
      exact sg_win (g := fun x => if d = 0 ∨ x = x2 then 0 else sg_b (F x) * sg_b (G x2)) (fun k hk => by
        show (if d = 0 ∨ k = x2 then 0 else sg_b (F k) * sg_b (G x2)) = 0
        rw [zf k (by omega), Nat.zero_mul]; split <;> rfl) W
  rw [e3, sg_swap, sg_swap (n := M), ← sg_add]
  apply sg_congr
  intro a _
  refine sg_c2 ?_ ?_
  · by_cases z : d = 0 ∧ a = 0
    · rw [if_pos z]
      exact sg_zero (fun x _ => if_pos ⟨z.1, by omega⟩)
    · rw [if_neg z, sg_tail (n := B) (m := M) hB]
      · exact sg_congr (fun x _ => if_neg (by omega))
      · intro x h1 _
        show (if d = 0 ∧ x + a = x then 0 else sg_b (F x) * sg_b (G (x + a))) = 0
        rw [zf x h1, Nat.zero_mul]; split <;> rfl
  · by_cases z : d = 0 ∨ a = 0
    · rw [if_pos z]
      exact sg_zero (fun x _ => if_pos (by omega))
    · rw [if_neg z, sg_tail (n := B) (m := M) hB]
      · exact sg_congr (fun x _ => if_neg (by omega))
      · intro x h1 _
        show (if d = 0 ∨ x + a = x then 0 else sg_b (F (x + a)) * sg_b (G x)) = 0
        rw [zg x h1, Nat.mul_zero]; split <;> rfl
/-- all couples of the text -/
theorem sg_over {O : Nat → Nat → Prop} {h W H : Nat} {f : Nat → Nat → Nat} (hh : h ≤ 12) (zx : ∀ x y, 12 ≤ x → ¬ O x y) (zy : ∀ x y, h ≤ y → ¬ O x y)
    (hf : ∀ x y x2 y2, x < 16 → y < 12 → x2 < 16 → y2 < 12 → f (16 * y + x) (16 * y2 + x2) = sg_b (16 * y + x < 16 * y2 + x2 ∧ x2 < x + W ∧ x < x2 + W ∧ y2 < y + H ∧ O x y ∧ O x2 y2)) :
    sg_s (fun k => sg_s (fun k2 => f k k2) 192) 192
    = sg_s (fun y => sg_s (fun d => sg_s (fun a => (if d = 0 ∧ a = 0 then 0 else sg_s (fun x => sg_b (O x y) * sg_b (O (x + a) (y + d))) 12) + (if d = 0 ∨ a = 0 then 0 else sg_s (fun x => sg_b (O (x + a) y) * sg_b (O x (y + d))) 12)) W) H) h := by
  show sg_s (fun k => sg_s (fun k2 => f k k2) (16 * 12)) (16 * 12) = _
  rw [sg_grid]
  have e0 : ∀ x y, x < 16 → y < 12 → sg_s (fun k2 => f (16 * y + x) k2) (16 * 12) = sg_s (fun y2 => sg_s (fun x2 => sg_b (16 * y + x < 16 * y2 + x2 ∧ x2 < x + W ∧ x < x2 + W ∧ y2 < y + H ∧ O x y ∧ O x2 y2)) 16) 12 := by
    intro x y hx hy
    rw [sg_grid]
    exact sg_congr (fun y2 hy2 => sg_congr (fun x2 hx2 => hf x y x2 y2 hx hy hx2 hy2))
  have e1 : sg_s (fun y => sg_s (fun x => sg_s (fun k2 => f (16 * y + x) k2) (16 * 12)) 16) 12 = sg_s (fun y => sg_s (fun y2 => sg_s (fun x => sg_s (fun x2 => sg_b (16 * y + x < 16 * y2 + x2 ∧ x2 < x + W ∧ x < x2 + W ∧ y2 < y + H ∧ O x y ∧ O x2 y2)) 16) 16) 12) 12 := by
    apply sg_congr
    intro y hy
    rw [sg_congr (fun x hx => e0 x y hx hy), sg_swap]
  rw [e1, sg_tail hh]
  · apply sg_congr
    intro y hy
    have e2 : sg_s (fun y2 => sg_s (fun x => sg_s (fun x2 => sg_b (16 * y + x < 16 * y2 + x2 ∧ x2 < x + W ∧ x < x2 + W ∧ y2 < y + H ∧ O x y ∧ O x2 y2)) 16) 16) 12
        = sg_s (fun y2 => if y ≤ y2 ∧ y2 < y + H then sg_s (fun x => sg_s (fun x2 => sg_b ((y2 - y = 0 → x < x2) ∧ x2 < x + W ∧ x < x2 + W ∧ O x y ∧ O x2 y2)) 16) 16 else 0) 12 := by
      apply sg_congr
      intro y2 hy2
      by_cases z : y ≤ y2 ∧ y2 < y + H
      · rw [if_pos z]
        apply sg_congr; intro x hx
        apply sg_congr; intro x2 hx2
        apply sg_bc
        constructor
        · rintro ⟨h1, h2, h3, h4, h5⟩
          exact ⟨fun w => by omega, h2, h3, h5⟩
        · rintro ⟨h1, h2, h3, h5⟩
          refine ⟨?_, h2, h3, z.2, h5⟩
          by_cases w : y2 - y = 0
          · have := h1 w; omega
          · omega
      · rw [if_neg z]
        apply sg_zero; intro x hx
        apply sg_zero; intro x2 hx2
        apply sg_bf
        rintro ⟨h1, h2, h3, h4, h5⟩
        omega
    rw [e2, sg_win (g := fun y2 => sg_s (fun x => sg_s (fun x2 => sg_b ((y2 - y = 0 → x < x2) ∧ x2 < x + W ∧ x < x2 + W ∧ O x y ∧ O x2 y2)) 16) 16)]
    · apply sg_congr
      intro d _
      show sg_s (fun x => sg_s (fun x2 => sg_b ((y + d - y = 0 → x < x2) ∧ x2 < x + W ∧ x < x2 + W ∧ O x y ∧ O x2 (y + d))) 16) 16 = _
      rw [show y + d - y = d from by omega]
      exact sg_pairs (F := fun x => O x y) (G := fun x => O x (y + d)) (B := 12) (M := 16) (by omega) (fun x hx => zx x y hx) (fun x hx => zx x (y + d) hx)
    · intro k hk
      apply sg_zero; intro x hx
      apply sg_zero; intro x2 hx2
      exact sg_bf (fun z => zy x2 k (by omega) z.2.2.2.2)
  · intro y h1 h2
    apply sg_zero; intro y2 hy2
    apply sg_zero; intro x hx
    apply sg_zero; intro x2 hx2
    exact sg_bf (fun z => zy x y h1 z.2.2.2.2.1)
/-! bits -/
theorem bz_or (a b : Nat) : nI a ||| nI b = nI (a ||| b) := by
  apply Int32.toBitVec_inj.1
  show BitVec.ofNat 32 a ||| BitVec.ofNat 32 b = BitVec.ofNat 32 (a ||| b)
  apply BitVec.eq_of_getLsbD_eq
  intro i hi
  simp [hi]
theorem bz_shr {m x : Nat} (hm : m < 2 ^ 31) (hx : x < 32) : nI m >>> (nI x &&& 31) = nI (m / 2 ^ x) := pk_shrN hm _ x (s_l x hx)
theorem bz_shl {m x : Nat} (hx : x < 32) (h : m * 2 ^ x < 2 ^ 32) : nI m <<< (nI x &&& 31) = nI (m * 2 ^ x) := pk_shlN _ x (s_l x hx) h
theorem bz_and1 (k : Nat) : nI k &&& 1 = nI (k % 2) := by
  show nI k &&& nI 1 = _
  rw [nx_and, Nat.and_one_is_mod]
theorem bz_bit {m x : Nat} (hm : m < 2 ^ 31) (hx : x < 32) : (nI m >>> (nI x &&& 31)) &&& 1 = nI (m.testBit x).toNat := by
  rw [bz_shr hm hx, bz_and1, Nat.toNat_testBit]
theorem bz_bit0 {m x : Nat} (hm : m < 2 ^ 31) (hx : x < 32) : (nI m >>> (nI x &&& 31)) &&& 1 = 0 ↔ ¬ m.testBit x = true := by
  rw [bz_bit hm hx]
  cases m.testBit x
  · exact ⟨fun _ z => Bool.noConfusion z, fun _ => rfl⟩
  · exact ⟨fun z => absurd z (by decide), fun z => absurd rfl z⟩
theorem bz_lt {m : Nat} (n : Nat) (h : ∀ x, n ≤ x → ¬ m.testBit x = true) : m < 2 ^ n := Nat.lt_pow_two_of_testBit m (fun i hi => by
  cases e : m.testBit i
  · rfl
  · exact absurd e (h i hi))
end
section
/-! indices, literals, bytes -/
theorem ix_3 (n c : Nat) : (3 : Int32) * nI n + nI c = nI (3 * n + c) := by rw [show (3 : Int32) = nI 3 from rfl, pk_mul, nI_add]
theorem ix_4 (n c : Nat) : (4 : Int32) * nI n + nI c = nI (4 * n + c) := by rw [show (4 : Int32) = nI 4 from rfl, pk_mul, nI_add]
theorem ix_5 (n c : Nat) : (5 : Int32) * nI n + nI c = nI (5 * n + c) := by rw [show (5 : Int32) = nI 5 from rfl, pk_mul, nI_add]
theorem ix_50 (n : Nat) : (5 : Int32) * nI n = nI (5 * n) := by rw [show (5 : Int32) = nI 5 from rfl, pk_mul]
theorem ix_160 (n : Nat) : (16 : Int32) * nI n = nI (16 * n) := by rw [show (16 : Int32) = nI 16 from rfl, pk_mul]
theorem ix_49 (n c : Nat) : (49 : Int32) * nI n + nI c = nI (49 * n + c) := by rw [show (49 : Int32) = nI 49 from rfl, pk_mul, nI_add]
theorem ix_12 (n c : Nat) : (12 : Int32) * nI n + nI c = nI (12 * n + c) := by rw [show (12 : Int32) = nI 12 from rfl, pk_mul, nI_add]
theorem ix_16 (n c : Nat) : (16 : Int32) * nI n + nI c = nI (16 * n + c) := by rw [show (16 : Int32) = nI 16 from rfl, pk_mul, nI_add]
theorem ix_p (p i j : Nat) : (16 : Int32) * nI p + (4 : Int32) * nI i + nI j = nI (16 * p + 4 * i + j) := by
  rw [show (16 : Int32) = nI 16 from rfl, show (4 : Int32) = nI 4 from rfl, pk_mul, pk_mul, nI_add, nI_add]
theorem ix_tx (y i x j : Nat) : (12 : Int32) * (nI y + nI i) + nI x + nI j = nI (12 * (y + i) + (x + j)) := by
  rw [show (12 : Int32) = nI 12 from rfl, nI_add, pk_mul, nI_add, nI_add, Nat.add_assoc]
theorem ix_ty (y i x j : Nat) : (16 : Int32) * (nI y + nI i) + nI x + nI j = nI (16 * (y + i) + (x + j)) := by
  rw [show (16 : Int32) = nI 16 from rfl, nI_add, pk_mul, nI_add, nI_add, Nat.add_assoc]
theorem li_3 {x : Nat} (h : x < 2 ^ 31) : (3 : Int32) ≤ nI x ↔ 3 ≤ x := nI_leI (a := 3) (by decide) h
theorem li_12 {x : Nat} (h : x < 2 ^ 31) : (12 : Int32) ≤ nI x ↔ 12 ≤ x := nI_leI (a := 12) (by decide) h
theorem li_16 {x : Nat} (h : x < 2 ^ 31) : (16 : Int32) ≤ nI x ↔ 16 ≤ x := nI_leI (a := 16) (by decide) h
theorem li_36 {x : Nat} (h : x < 2 ^ 31) : (36 : Int32) ≤ nI x ↔ 36 ≤ x := nI_leI (a := 36) (by decide) h
theorem li_147 {x : Nat} (h : x < 2 ^ 31) : (147 : Int32) ≤ nI x ↔ 147 ≤ x := nI_leI (a := 147) (by decide) h
theorem li_192 {x : Nat} (h : x < 2 ^ 31) : (192 : Int32) ≤ nI x ↔ 192 ≤ x := nI_leI (a := 192) (by decide) h
theorem li_0 {x : Nat} (h : x < 2 ^ 31) : nI x ≤ (0 : Int32) ↔ x = 0 := (nI_leI (b := 0) h (by decide)).trans (by omega)
theorem li_z {x : Nat} (h : x < 2 ^ 31) : nI x = (0 : Int32) ↔ x = 0 := nI_eq (b := 0) h (by decide)
theorem li_p {x : Nat} (h : x < 2 ^ 31) : (0 : Int32) ≤ nI x := nI_pos' h
theorem ib_s : ∀ n, n < 128 → (nI n).toInt8.toInt32 = nI n := by decide +kernel
theorem ib_n {n : Nat} (h : n < 128) : vp_nar .byte (nI n) = nI n := by rw [vp_nar_byte]; exact ib_s n h
theorem ib_2 {n : Nat} (h : n < 128) : vp_nar .byte (nI n).toInt8.toInt32 = nI n := by rw [ib_s n h, ib_n h]
theorem ib_0 : vp_nar .byte 0 = 0 := ib_n (n := 0) (by decide)
theorem ib_1 : vp_nar .byte 1 = 1 := ib_n (n := 1) (by decide)
theorem ib_m1 : vp_nar .byte (-1) = -1 := by rw [vp_nar_byte]; decide
/-! the context: patterns of W p by H p letters, letters below 3 -/
def cx_P (pw ph pt : Nat → Int32) (W H : Nat → Nat) : Prop :=
  (∀ p, p < 3 → pw p = nI (W p) ∧ 1 ≤ W p ∧ W p ≤ 4) ∧ (∀ p, p < 3 → ph p = nI (H p) ∧ 1 ≤ H p ∧ H p ≤ 4) ∧ (∀ k, k < 48 → ∃ c, c < 3 ∧ pt k = nI c)
def cx_T (tx : Nat → Int32) : Prop := ∀ k, k < 144 → ∃ c, c < 3 ∧ tx k = nI c
def cx_pr (pt : Nat → Int32) (W : Nat → Nat) (p i : Nat) : List Int32 := ac_rl (fun j => pt (16 * p + 4 * i + j)) (W p)
theorem cx_len {pt : Nat → Int32} {W : Nat → Nat} (p i : Nat) : (cx_pr pt W p i).length = W p := ac_rl_len _ _
/-- the trie while it is built: the rows ahead of row i of pattern p are in it -/
def ba_I (pt : Nat → Int32) (W H : Nat → Nat) (p i : Nat) (kc : Int32) (br re rn : Nat → Int32) : Prop :=
  ∃ nc wd, kc = nI nc ∧ nc ≤ 1 + 16 * p + 4 * i ∧ tr_T nc br wd ∧ tr_E nc wd re H (cx_pr pt W) ∧ tr_N nc wd re rn (cx_pr pt W) (fun p' i' => (p' < p ∧ i' < H p') ∨ (p' = p ∧ i' < i))
section
variable {fw fh kc sr : Int32} {tx pw ph pt br fb nq re rn fl fd pg : Nat → Int32} {W H : Nat → Nat} {p i : Nat} {post : SX → Prop}
theorem xa_111 {k : Nat} (hk : k < 147) (hp : 4 * p + i < 12) {v : Nat} (hv : re k = nI v) (hv2 : v < 128) (h : post (fw, fh, kc, sr, tx, pw, ph, pt, br, fb, nq, re, upd rn (4 * p + i) (re k), fl, fd, pg)) :
    wX_addRow_111 post (nI p) (nI i) (nI k) fw fh kc sr tx pw ph pt br fb nq re rn fl fd pg := by
  rw [hv] at h
  simp (disch := omega) only [wX_addRow_111, ix_4, nI_clamp, hv, ib_n, forall_eq, vp_in_nI, true_and]
  exact h
theorem xa_loop (C : cx_P pw ph pt W H) (hp : p < 3) (hi : i < H p) :
    ∀ n j nd nc br wd, W p < n + j → j ≤ W p → tr_T nc br wd → nc ≤ 1 + 16 * p + 4 * i + j → nd < nc → wd nd = ac_rl (fun j => pt (16 * p + 4 * i + j)) j →
    tr_E nc wd re H (cx_pr pt W) → tr_N nc wd re rn (cx_pr pt W) (fun p' i' => (p' < p ∧ i' < H p') ∨ (p' = p ∧ i' < i)) →
    (∀ kc' br' re' rn', ba_I pt W H p (i + 1) kc' br' re' rn' → post (fw, fh, kc', sr, tx, pw, ph, pt, br', fb, nq, re', rn', fl, fd, pg)) →
    wX_addRow_5 post (nI p) (nI i) fw fh sr n (nI nd) (nI j) (nI nc) tx pw ph pt br fb nq re rn fl fd pg := by
  obtain ⟨hW, hW1, hW4⟩ := C.1 p hp
  obtain ⟨hH, hH1, hH4⟩ := C.2.1 p hp
  intro n
  induction n with
  | zero => intro j nd nc br wd h1 h2; omega
  | succ n ih =>
    intro j nd nc br wd hn hj T hnc hnd hw E N K
    simp (disch := omega) only [wX_addRow_5, nI_clamp, hW, nI_leI, ix_49, ix_p, forall_eq, vp_in_nI, true_and]
    refine ⟨fun hj2 => ?_, fun hj2 => ?_⟩
    · have hjW : j = W p := by omega
      subst hjW
      have hP : ∀ p' i', p' < 3 → i' < 4 → ((((p' < p ∧ i' < H p') ∨ (p' = p ∧ i' < i + 1))) ↔ (((p' < p ∧ i' < H p') ∨ (p' = p ∧ i' < i)) ∨ (p' = p ∧ i' = i))) := by
        intro p' i' _ _
        omega
      rcases E p nd hp (by omega) with e | ⟨-, v, hv, e, hwv⟩
      · rw [e]
        refine ⟨fun z => absurd z tr_m1', fun _ => ?_⟩
        rw [ib_2 (by omega)]
        obtain ⟨E2, N2⟩ := tr_end2 E N hp (by omega) hi hnd (by omega) hw e
        refine xa_111 (by omega) (by omega) (v := i) pk_us (by omega) ?_
        rw [pk_us]
        refine K _ _ _ _ ⟨nc, wd, rfl, by omega, T, E2, ?_⟩
        intro p' i' hp' hi' h
        exact N2 p' i' hp' hi' ((hP p' i' hp' hi').mp h)
      · have hr : re (49 * p + nd) ≠ -1 := by rw [e]; exact tr_m1 (by omega)
        have N2 := tr_end1 N hp (by omega) hnd (by omega) hw hr
        refine br_t (by rw [e]; exact nI_pos' (by omega)) (xa_111 (by omega) (by omega) (v := v) e (by omega) ?_)
        refine K _ _ _ _ ⟨nc, wd, rfl, by omega, T, E, ?_⟩
        intro p' i' hp' hi' h
        exact N2 p' i' hp' hi' ((hP p' i' hp' hi').mp h)
    · obtain ⟨c, hc, ec⟩ := C.2.2 (16 * p + 4 * i + j) (by omega)
      obtain ⟨m, hm, em, hwm⟩ := T.2.2.1 nd c hnd hc
      simp (disch := omega) only [ec, ix_3, nI_clamp, vp_in_nI, true_and, nI_1]
      rw [em]
      by_cases hm0 : m = 0
      · subst hm0
        have hz : br (3 * nd + c) = 0 := em
        refine br_t rfl ?_
        rw [ib_2 (by omega), pk_us]
        refine ih (j + 1) nc (nc + 1) _ (tr_wd wd nc (nI c :: wd nd)) (by omega) (by omega) (tr_new T (by omega) hnd hc hz) (by omega) (by omega) ?_ (tr_E_new E) (tr_N_new N) K
        rw [tr_wds, hw]
        show nI c :: _ = pt (16 * p + 4 * i + j) :: _
        rw [ec]
      · refine br_f (nI_ne0 (by omega) (by omega)) ?_
        refine ih (j + 1) m nc br wd (by omega) (by omega) T (by omega) hm ?_ E N K
        rw [hwm hm0, hw]
        show nI c :: _ = pt (16 * p + 4 * i + j) :: _
        rw [ec]
theorem xa_addRow (C : cx_P pw ph pt W H) (hp : p < 3) (hi : i < H p) (I : ba_I pt W H p i kc br re rn)
    (K : ∀ kc' br' re' rn', ba_I pt W H p (i + 1) kc' br' re' rn' → post (fw, fh, kc', sr, tx, pw, ph, pt, br', fb, nq, re', rn', fl, fd, pg)) : wpX_addRow post (fw, fh, kc, sr, tx, pw, ph, pt, br, fb, nq, re, rn, fl, fd, pg) (nI p) (nI i) := by
  obtain ⟨nc, wd, rfl, hnc, T, E, N⟩ := I
  exact ⟨W p + 1, xa_loop C hp hi (W p + 1) 0 0 nc br wd (by omega) (by omega) T (by omega) T.1 T.2.1 E N K⟩
theorem ba_next (C : cx_P pw ph pt W H) (hp : p < 3) (I : ba_I pt W H p (H p) kc br re rn) : ba_I pt W H (p + 1) 0 kc br re rn := by
  obtain ⟨nc, wd, e, hnc, T, E, N⟩ := I
  obtain ⟨hH, hH1, hH4⟩ := C.2.1 p hp
  refine ⟨nc, wd, e, by omega, T, E, ?_⟩
  intro p' i' hp' hi' h
  apply N p' i' hp' hi'
  rcases h with ⟨h1, h2⟩ | ⟨h1, h2⟩
  · by_cases z : p' = p
    · subst z; exact Or.inr ⟨rfl, h2⟩
    · exact Or.inl ⟨by omega, h2⟩
  · omega
theorem ba_zero (hb : ∀ k, k < 147 → br k = 0) (hr : ∀ k, k < 147 → re k = -1) : ba_I pt W H 0 0 (nI 1) br re rn := by
  refine ⟨1, fun _ => [], rfl, by omega, tr_init hb, ?_, ?_⟩
  · intro p n hp hn
    exact Or.inl (hr _ (by omega))
  · intro p i hp hi h
    omega
end
section
variable {fw fh kc sr : Int32} {tx pw ph pt br fb nq re rn fl fd pg : Nat → Int32} {W H : Nat → Nat} {p i : Nat} {post : SX → Prop}
theorem xb_43 (C : cx_P pw ph pt W H) (hp : p < 3) {J : Int32 → Int32 → Int32 → Int32 → Int32 → (Nat → Int32) → (Nat → Int32) → (Nat → Int32) → (Nat → Int32) → (Nat → Int32) → (Nat → Int32) → (Nat → Int32) → (Nat → Int32) → (Nat → Int32) → (Nat → Int32) → (Nat → Int32) → (Nat → Int32) → Prop}
    (K : ∀ kc' br' re' rn', ba_I pt W H (p + 1) 0 kc' br' re' rn' → J (nI (p + 1)) fw fh kc' sr tx pw ph pt br' fb nq re' rn' fl fd pg) :
    ∀ n i kc br re rn, H p < n + i → i ≤ H p → ba_I pt W H p i kc br re rn → wX_buildAutomaton_43 post J (nI p) n (nI i) fw fh kc sr tx pw ph pt br fb nq re rn fl fd pg := by
  obtain ⟨hH, hH1, hH4⟩ := C.2.1 p hp
  intro n
  induction n with
  | zero => intro i kc br re rn h1 h2; omega
  | succ n ih =>
    intro i kc br re rn hn hi I
    simp (disch := omega) only [wX_buildAutomaton_43, nI_clamp, hH, nI_leI, forall_eq, vp_in_nI, true_and, nI_1]
    refine ⟨fun h => ?_, fun h => ?_⟩
    · have : i = H p := by omega
      subst this
      exact K _ _ _ _ (ba_next C hp I)
    · refine xa_addRow C hp (by omega) I ?_
      intro kc' br' re' rn' I'
      exact ih (i + 1) kc' br' re' rn' (by omega) (by omega) I'
theorem xb_36 (C : cx_P pw ph pt W H)
    (K : ∀ kc' br' re' rn', ba_I pt W H 3 0 kc' br' re' rn' → wpX_linkNodes post (fw, fh, kc', sr, tx, pw, ph, pt, br', fb, nq, re', rn', fl, fd, pg)) :
    ∀ n p kc br re rn, 3 < n + p → p ≤ 3 → ba_I pt W H p 0 kc br re rn → wX_buildAutomaton_36 post n (nI p) fw fh kc sr tx pw ph pt br fb nq re rn fl fd pg := by
  intro n
  induction n with
  | zero => intro p kc br re rn h1 h2; omega
  | succ n ih =>
    intro p kc br re rn hn hp I
    simp (disch := omega) only [wX_buildAutomaton_36, li_3]
    refine ⟨fun h => ?_, fun h => ?_⟩
    · have : p = 3 := by omega
      subst this
      exact K _ _ _ _ I
    · refine ⟨5, xb_43 C (by omega) ?_ 5 0 kc br re rn (by have := (C.2.1 p (by omega)).2.2; omega) (by omega) I⟩
      intro kc' br' re' rn' I'
      exact ih (p + 1) kc' br' re' rn' (by omega) (by omega) I'
theorem xb_7 (C : cx_P pw ph pt W H)
    (K : ∀ kc' br' re' rn', ba_I pt W H 3 0 kc' br' re' rn' → wpX_linkNodes post (fw, fh, kc', sr, tx, pw, ph, pt, br', fb, nq, re', rn', fl, fd, pg)) :
    ∀ n k br re, 147 < n + k → k ≤ 147 → (∀ j, j < k → br j = 0) → (∀ j, j < k → re j = -1) → wX_buildAutomaton_7 post fw fh (nI 1) sr n (nI k) tx pw ph pt br fb nq re rn fl fd pg := by
  intro n
  induction n with
  | zero => intro k br re h1 h2; omega
  | succ n ih =>
    intro k br re hn hk hb hr
    simp (disch := omega) only [wX_buildAutomaton_7, li_147, nI_clamp, forall_eq, vp_in_nI, true_and, nI_1, ib_0, ib_m1]
    refine ⟨fun h => ?_, fun h => ?_⟩
    · exact ⟨4, xb_36 C K 4 0 _ _ _ _ (by omega) (by omega) (ba_zero (fun j hj => hb j (by omega)) (fun j hj => hr j (by omega)))⟩
    · refine ⟨vp_in_nI (by omega) (by omega), vp_in_nI (by omega) (by omega), ih (k + 1) _ _ (by omega) (by omega) ?_ ?_⟩
      · intro j hj
        by_cases z : j = k
        · subst z; exact pk_us
        · rw [pk_un z]; exact hb j (by omega)
      · intro j hj
        by_cases z : j = k
        · subst z; exact pk_us
        · rw [pk_un z]; exact hr j (by omega)
theorem xb_build (C : cx_P pw ph pt W H)
    (K : ∀ kc' br' re' rn', ba_I pt W H 3 0 kc' br' re' rn' → wpX_linkNodes post (fw, fh, kc', sr, tx, pw, ph, pt, br', fb, nq, re', rn', fl, fd, pg)) : wpX_buildAutomaton post (fw, fh, kc, sr, tx, pw, ph, pt, br, fb, nq, re, rn, fl, fd, pg) :=
  ⟨148, xb_7 C K 148 0 br re (by omega) (by omega) (fun j hj => absurd hj (Nat.not_lt_zero _)) (fun j hj => absurd hj (Nat.not_lt_zero _))⟩
end
end
section
/-! the walk of linkNodes -/
theorem ln_D_add {nq : Nat → Int32} {e a n : Nat} {x : Int32} (h : a ≤ e) : ln_D (upd nq e x) a n ↔ ln_D nq a n := by
  constructor
  · rintro (z | ⟨i, hi, z⟩)
    · exact Or.inl z
    · exact Or.inr ⟨i, hi, by rw [ac_cln (by omega)] at z; exact z⟩
  · rintro (z | ⟨i, hi, z⟩)
    · exact Or.inl z
    · exact Or.inr ⟨i, hi, by rw [ac_cln (by omega)]; exact z⟩
theorem ln_D_s {nq : Nat → Int32} {a n : Nat} : ln_D nq (a + 1) n ↔ ln_D nq a n ∨ n = ac_cl nq a := by
  constructor
  · rintro (z | ⟨i, hi, z⟩)
    · exact Or.inl (Or.inl z)
    · by_cases y : i = a
      · subst y; exact Or.inr z.symm
      · exact Or.inl (Or.inr ⟨i, by omega, z⟩)
  · rintro ((z | ⟨i, hi, z⟩) | z)
    · exact Or.inl z
    · exact Or.inr ⟨i, by omega, z⟩
    · exact Or.inr ⟨a, by omega, z.symm⟩
theorem ln_Pl {D : Prop} {n' n c' l : Nat} : (D ∨ (n' = n ∧ c' < l + 1)) ↔ ((D ∨ (n' = n ∧ c' < l)) ∨ (n' = n ∧ c' = l)) := by
  constructor
  · rintro (z | ⟨z1, z2⟩)
    · exact Or.inl (Or.inl z)
    · rcases Nat.lt_succ_iff_lt_or_eq.mp z2 with y | y
      · exact Or.inl (Or.inr ⟨z1, y⟩)
      · exact Or.inr ⟨z1, y⟩
  · rintro ((z | ⟨z1, z2⟩) | ⟨z1, z2⟩)
    · exact Or.inl z
    · exact Or.inr ⟨z1, by omega⟩
    · exact Or.inr ⟨z1, by omega⟩
section
variable {fw fh kc sr : Int32} {tx pw ph pt br fb nq re rn fl fd pg : Nat → Int32} {post : SX → Prop} {nc : Nat} {tb re0 : Nat → Int32} {wd : Nat → List Int32}
theorem xi_inh {p n f : Nat} (hp : p < 3) (hn : n < 49) (hf : f < 49) (hv : ∀ n, n < 49 → re (49 * p + n) = -1 ∨ ∃ v, v < 128 ∧ re (49 * p + n) = nI v)
    (h1 : re (49 * p + n) ≠ -1 → post (fw, fh, kc, sr, tx, pw, ph, pt, br, fb, nq, re, rn, fl, fd, pg)) (h2 : re (49 * p + n) = -1 → post (fw, fh, kc, sr, tx, pw, ph, pt, br, fb, nq, upd re (49 * p + n) (re (49 * p + f)), rn, fl, fd, pg)) : wpX_inheritRow post (fw, fh, kc, sr, tx, pw, ph, pt, br, fb, nq, re, rn, fl, fd, pg) (nI p) (nI n) (nI f) := by
  have e : vp_nar .byte (re (49 * p + f)) = re (49 * p + f) := by
    rcases hv f hf with e | ⟨v, hv, e⟩
    · rw [e]; exact ib_m1
    · rw [e]; exact ib_n hv
  simp (disch := omega) only [wpX_inheritRow, ix_49, nI_clamp, vp_in_nI, true_and, forall_eq, e]
  rcases hv n hn with e1 | ⟨v, hv, e1⟩
  · exact br_f (by rw [e1]; exact tr_m1') (h2 e1)
  · exact br_t (by rw [e1]; exact nI_pos' (by omega)) (h1 (by rw [e1]; exact tr_m1 (by omega)))
def ln_V (re : Nat → Int32) : Prop := ∀ p n, p < 3 → n < 49 → re (49 * p + n) = -1 ∨ ∃ v, v < 128 ∧ re (49 * p + n) = nI v
theorem ln_V_upd {p n f : Nat} (h : ln_V re) (hp : p < 3) (hf : f < 49) : ln_V (upd re (49 * p + n) (re (49 * p + f))) := by
  intro p' n' hp' hn'
  by_cases z : 49 * p' + n' = 49 * p + n
  · rw [z, pk_us]; exact h p f hp hf
  · rw [pk_un z]; exact h p' n' hp' hn'
/-- the letters of one node -/
theorem xl_103 (T : tr_T nc tb wd) (hnc : nc ≤ 49) {a n f : Nat} {D : Nat → Prop} (hn : n < nc) (hn0 : n ≠ 0) (hf : f < nc) (hF : ac_L (tr_S nc wd) (wd n).dropLast (wd f)) (hDf : D f) (hDn : ¬ D n)
    {J : Int32 → Int32 → Int32 → Int32 → Int32 → Int32 → (Nat → Int32) → (Nat → Int32) → (Nat → Int32) → (Nat → Int32) → (Nat → Int32) → (Nat → Int32) → (Nat → Int32) → (Nat → Int32) → (Nat → Int32) → (Nat → Int32) → (Nat → Int32) → (Nat → Int32) → Prop}
    (K : ∀ e br fb nq, ln_I nc tb wd (fun n' c' => D n' ∨ (n' = n ∧ c' < 3)) e br fb nq → ln_O wd a e (wd n).length nq → (∀ n', D n' ↔ ln_D nq a n') → a < e → ac_cl nq a = n → J (nI e) (nI (a + 1)) fw fh kc sr tx pw ph pt br fb nq re rn fl fd pg) :
    ∀ k l e br fb nq, 3 < k + l → l ≤ 3 → ln_I nc tb wd (fun n' c' => D n' ∨ (n' = n ∧ c' < l)) e br fb nq → ln_O wd a e (wd n).length nq → (∀ n', D n' ↔ ln_D nq a n') → a < e → ac_cl nq a = n →
      wX_linkNodes_103 post J (nI a) (nI n) (nI f) fw fh kc sr k (nI e) (nI l) tx pw ph pt br fb nq re rn fl fd pg := by
  intro k
  induction k with
  | zero => intro l e br fb nq h1 h2; omega
  | succ k ih =>
    intro l e br fb nq hk hl I hO hD hae hq
    have hcard := ln_card I
    have ha : a < 49 := by omega
    simp (disch := omega) only [wX_linkNodes_103, li_3, nI_clamp, ix_3, forall_eq, nI_1]
    refine ⟨fun h => ?_, fun h => ?_⟩
    · have : l = 3 := by omega
      subst this
      exact K e br fb nq I hO hD hae hq
    · obtain ⟨m, hm, em, hwm⟩ := T.2.2.1 n l hn (by omega)
      have ebr : br (3 * n + l) = nI m := (I.2.2.2.1 n l hn (by omega) (by rintro (z | ⟨-, z⟩); exact hDn z; omega)).trans em
      obtain ⟨o, ho, eo, hLo⟩ := I.2.2.1 f l hf (by omega) (Or.inl hDf)
      have hP : ¬ ((fun n' c' => D n' ∨ (n' = n ∧ c' < l)) n l) := by
        rintro (z | ⟨-, z⟩)
        · exact hDn z
        · omega
      simp (disch := omega) only [ebr, eo, ib_2, vp_in_nI, true_and, li_z, nI_clamp]
      by_cases hm0 : m = 0
      · subst hm0
        refine br_t rfl ?_
        refine ih (l + 1) e _ fb nq (by omega) (by omega) ?_ hO hD hae hq
        refine ln_congr (ln_none (br' := upd br (3 * n + l) (nI o)) (o := o) I hP em (by omega) ho hnc ?_ pk_us (fun k hk => pk_un hk)) (fun n' c' _ _ => ln_Pl)
        exact ac_miss (tr_Scl T hnc) (tr_ne T hn hn0) hF (tr_noch T hnc hn (by omega) em) hLo
      · have hw := hwm hm0
        have hL : ac_L (tr_S nc wd) (wd m).dropLast (wd o) := by
          rw [hw, List.dropLast_cons_of_ne_nil (tr_ne T hn hn0)]
          exact ac_step (tr_Scl T hnc) hF hLo
        have I2 := ln_child T hnc I hn (by omega) hP hm hm0 em ho hL
        have hc2 := ln_card I2
        refine br_f hm0 (ih (l + 1) (e + 1) br _ _ (by omega) (by omega) (ln_congr I2 (fun n' c' _ _ => ln_Pl)) (ln_O_add hO (by omega) (by rw [hw]; rfl)) ?_ (by omega) ?_)
        · intro n'
          rw [ln_D_add (by omega)]
          exact hD n'
        · rw [ac_cln (by omega)]
          exact hq
/-- the row numbers of one node -/
theorem xl_79 (T : tr_T nc tb wd) (hnc : nc ≤ 49) {x1 x2 : Int32} {n f : Nat} {D : Nat → Prop} (hn : n < nc) (hf : f < nc) (hF : ac_L (tr_S nc wd) (wd n).dropLast (wd f)) (hDf : D f) (hDn : ¬ D n)
    {J : Int32 → Int32 → Int32 → Int32 → Int32 → Int32 → (Nat → Int32) → (Nat → Int32) → (Nat → Int32) → (Nat → Int32) → (Nat → Int32) → (Nat → Int32) → (Nat → Int32) → (Nat → Int32) → (Nat → Int32) → (Nat → Int32) → (Nat → Int32) → (Nat → Int32) → Prop}
    (K : ∀ re, ln_V re → ln_R nc wd re0 re (fun p' n' => D n' ∨ (n' = n ∧ p' < 3)) → ∃ k, wX_linkNodes_103 post J x2 (nI n) (nI f) fw fh kc sr k x1 0 tx pw ph pt br fb nq re rn fl fd pg) :
    ∀ k p re, 3 < k + p → p ≤ 3 → ln_V re → ln_R nc wd re0 re (fun p' n' => D n' ∨ (n' = n ∧ p' < p)) →
      wX_linkNodes_79 post J x1 x2 (nI n) (nI f) k (nI p) fw fh kc sr tx pw ph pt br fb nq re rn fl fd pg := by
  intro k
  induction k with
  | zero => intro p re h1 h2; omega
  | succ k ih =>
    intro p re hk hp hV R
    simp (disch := omega) only [wX_linkNodes_79, li_3, forall_eq, nI_1]
    refine ⟨fun h => ?_, fun h => ?_⟩
    · have : p = 3 := by omega
      subst this
      exact K re hV R
    · have hQ : ¬ ((fun p' n' => D n' ∨ (n' = n ∧ p' < p)) p n) := by
        rintro (z | ⟨-, z⟩)
        · exact hDn z
        · omega
      have cg : ∀ p' n', p' < 3 → n' < nc → ((D n' ∨ (n' = n ∧ p' < p + 1)) ↔ ((D n' ∨ (n' = n ∧ p' < p)) ∨ (p' = p ∧ n' = n))) := by
        intro p' n' _ _
        rw [ln_Pl]
        exact or_congr Iff.rfl And.comm
      refine xi_inh (by omega) (by omega) (by omega) (fun n hn => hV p n (by omega) hn) (fun h1 => ?_) (fun h1 => ?_)
      · exact ih (p + 1) re (by omega) (by omega) hV (ln_R_congr (ln_own R (by omega) hn hQ h1) cg)
      · exact ih (p + 1) _ (by omega) (by omega) (ln_V_upd hV (by omega) (by omega)) (ln_R_congr (ln_inh T hnc R (by omega) hn hQ h1 hf (Or.inl hDf) hF) cg)
theorem xl_56 (T : tr_T nc tb wd) (hnc : nc ≤ 49)
    (K : ∀ br fb nq re, (∀ n c, n < nc → c < 3 → ∃ m, m < nc ∧ br (3 * n + c) = nI m ∧ ac_L (tr_S nc wd) (nI c :: wd n) (wd m)) → (∀ p n, p < 3 → n < nc → ln_G nc wd re0 p n (re (49 * p + n))) → post (fw, fh, kc, sr, tx, pw, ph, pt, br, fb, nq, re, rn, fl, fd, pg)) :
    ∀ k a e L br fb nq re, 49 < k + a → a ≤ e → ln_V re → ln_I nc tb wd (fun n' _ => ln_D nq a n') e br fb nq → ln_O wd a e L nq → ln_R nc wd re0 re (fun _ n' => ln_D nq a n') →
      wX_linkNodes_56 post k (nI e) (nI a) fw fh kc sr tx pw ph pt br fb nq re rn fl fd pg := by
  intro k
  induction k with
  | zero =>
    intro a e L br fb nq re h1 h2 hV I
    have := ln_card I
    omega
  | succ k ih =>
    intro a e L br fb nq re hk hae hV I hO R
    have hcard := ln_card I
    have he : e < 49 := by omega
    simp (disch := omega) only [wX_linkNodes_56, nI_leI, nI_clamp, forall_eq]
    refine ⟨fun h => ?_, fun h => ?_⟩
    · have : a = e := by omega
      subst this
      have all := ln_all T hnc I (fun n c _ _ h => h)
      refine K br fb nq re (fun n c hn hc => I.2.2.1 n c hn hc (all _ n hn rfl)) (fun p n hp hn => (R p n hp hn).1 (all _ n hn rfl))
    · have hlt : a < e := by omega
      obtain ⟨hn0, hn, hqa⟩ := I.1 a hlt
      obtain ⟨f, hf, ef, hF⟩ := I.2.2.2.2.2.2 a hlt
      generalize en : ac_cl nq a = n at hn0 hn hqa ef hF
      have hO2 := ln_O_next hO hlt
      rw [en] at hO2
      have hDn : ¬ ln_D nq a n := by
        rintro (z | ⟨i, hi, z⟩)
        · omega
        · have := I.2.1 i a (by omega) hlt (z.trans en.symm)
          omega
      have hlen : (wd f).length < (wd n).length := by
        have h1 := hF.2.1.length_le
        rw [List.length_dropLast] at h1
        have h2 := tr_ne T hn (by omega)
        have h3 : 0 < (wd n).length := List.length_pos_iff.mpr h2
        omega
      have hDf : ln_D nq a f := ln_short T hnc I hO2 (fun n c _ _ h => h) _ f hf rfl hlen
      simp (disch := omega) only [hqa, nI_clamp, ef, vp_in_nI, true_and]
      refine ⟨4, xl_79 (D := fun n' => ln_D nq a n') T hnc hn hf hF hDf hDn ?_ 4 0 re (by omega) (by omega) hV (ln_R_congr R (fun p' n' _ _ => ⟨fun z => z.elim id (fun y => absurd y.2 (Nat.not_lt_zero _)), Or.inl⟩))⟩
      intro re' hV' R'
      refine ⟨4, xl_103 (D := fun n' => ln_D nq a n') T hnc hn (by omega) hf hF hDf hDn ?_ 4 0 e br fb nq (by omega) (by omega) (ln_congr I (fun n' c' _ _ => ⟨fun z => z.elim id (fun y => absurd y.2 (Nat.not_lt_zero _)), Or.inl⟩)) hO2 (fun _ => Iff.rfl) hlt en⟩
      intro e' br' fb' nq' I' hO' hD' hae' hq'
      have hD2 : ∀ n', ln_D nq' (a + 1) n' ↔ (ln_D nq a n' ∨ n' = n) := by
        intro n'
        rw [ln_D_s, hq', hD' n']
      refine ih (a + 1) e' (wd n).length br' fb' nq' re' (by omega) (by omega) hV' (ln_congr I' (fun n' c' _ hc' => ?_)) (ln_O_up hO') (ln_R_congr R' (fun p' n' hp' _ => ?_))
      · rw [hD2 n']
        exact or_congr Iff.rfl ⟨fun z => ⟨z, hc'⟩, fun z => z.1⟩
      · rw [hD2 n']
        exact or_congr Iff.rfl ⟨fun z => ⟨z, hp'⟩, fun z => z.1⟩
theorem xl_11 (T : tr_T nc tb wd) (hnc : nc ≤ 49) (hV : ln_V re)
    (K : ∀ br fb nq re', (∀ n c, n < nc → c < 3 → ∃ m, m < nc ∧ br (3 * n + c) = nI m ∧ ac_L (tr_S nc wd) (nI c :: wd n) (wd m)) → (∀ p n, p < 3 → n < nc → ln_G nc wd re p n (re' (49 * p + n))) → post (fw, fh, kc, sr, tx, pw, ph, pt, br, fb, nq, re', rn, fl, fd, pg)) :
    ∀ k l e fb nq, 3 < k + l → l ≤ 3 → ln_I nc tb wd (fun n' c' => n' = 0 ∧ c' < l) e tb fb nq → ln_O wd 0 e 0 nq →
      wX_linkNodes_11 post fw fh kc sr k (nI e) (nI l) tx pw ph pt tb fb nq re rn fl fd pg := by
  intro k
  induction k with
  | zero => intro l e fb nq h1 h2; omega
  | succ k ih =>
    intro l e fb nq hk hl I hO
    have hcard := ln_card I
    have h1 := T.1
    simp (disch := omega) only [wX_linkNodes_11, li_3, nI_clamp, forall_eq, nI_1, ib_0]
    refine ⟨fun h => ?_, fun h => ?_⟩
    · have : l = 3 := by omega
      subst this
      have hD : ∀ n', ln_D nq 0 n' ↔ n' = 0 := by
        intro n'
        constructor
        · rintro (z | ⟨i, hi, -⟩)
          · exact z
          · omega
        · exact Or.inl
      refine ⟨50, xl_56 (re0 := re) T hnc K 50 0 e 0 tb fb nq re (by omega) (by omega) hV (ln_congr I (fun n' c' _ hc' => ?_)) hO (ln_R_congr (ln_R0 T) (fun p' n' _ _ => ?_))⟩
      · rw [hD]; exact ⟨fun z => ⟨z, hc'⟩, fun z => z.1⟩
      · rw [hD]
    · obtain ⟨m, hm, em, hwm⟩ := T.2.2.1 0 l (by omega) (by omega)
      have em2 : tb l = nI m := by rw [← em]; congr 1; omega
      have hP : ¬ ((fun n' c' => n' = 0 ∧ c' < l) 0 l) := fun z => by have := z.2; omega
      have cg : ∀ n' c', n' < nc → c' < 3 → ((n' = 0 ∧ c' < l + 1) ↔ ((n' = 0 ∧ c' < l) ∨ (n' = 0 ∧ c' = l))) := by
        intro n' c' _ _
        omega
      simp (disch := omega) only [em2, ib_2, vp_in_nI, true_and, li_z, nI_clamp]
      by_cases hm0 : m = 0
      · subst hm0
        refine br_t rfl ?_
        refine ih (l + 1) e fb nq (by omega) (by omega) (ln_congr (ln_none (o := 0) I hP em (by omega) (by omega) hnc ?_ em (fun _ _ => rfl)) cg) hO
        have := tr_noch T hnc (n := 0) (by omega) (show l < 3 by omega) em
        rw [T.2.1] at this ⊢
        exact ac_root (tr_S0 T) this
      · have hw := hwm hm0
        rw [T.2.1] at hw
        have hL : ac_L (tr_S nc wd) (wd m).dropLast (wd 0) := by
          rw [hw, T.2.1]
          exact ac_self (tr_S0 T)
        have I2 := ln_child T hnc I (n := 0) (by omega) (by omega) hP hm hm0 em (f := 0) (by omega) hL
        have hc2 := ln_card I2
        exact br_f hm0 (ih (l + 1) (e + 1) _ _ (by omega) (by omega) (ln_congr I2 cg) (ln_O_add hO (by omega) (by rw [hw]; rfl)))
theorem xl_link {W H : Nat → Nat} (C : cx_P pw ph pt W H) (I : ba_I pt W H 3 0 kc br re rn)
    (K : ∀ br' fb' nq' re', (∃ nc wd, au_A nc wd br' re' rn H (cx_pr pt W)) → post (fw, fh, kc, sr, tx, pw, ph, pt, br', fb', nq', re', rn, fl, fd, pg)) : wpX_linkNodes post (fw, fh, kc, sr, tx, pw, ph, pt, br, fb, nq, re, rn, fl, fd, pg) := by
  obtain ⟨nc, wd, rfl, hnc, T, E, N⟩ := I
  have h49 : nc ≤ 49 := by omega
  have hV : ln_V re := by
    intro p n hp hn
    rcases E p n hp hn with e | ⟨-, i, hi, e, -⟩
    · exact Or.inl e
    · exact Or.inr ⟨i, by have := (C.2.1 p hp).2.2; omega, e⟩
  have N2 : tr_N nc wd re rn (cx_pr pt W) (fun p i => i < H p) := fun p i hp hi h => N p i hp hi (Or.inl ⟨hp, h⟩)
  show ∀ fb', fb' = upd fb 0 (vp_nar .byte 0) → ∃ k, wX_linkNodes_11 post fw fh (nI nc) sr k (nI 0) (nI 0) tx pw ph pt br fb' nq re rn fl fd pg
  intro fb' _
  refine ⟨4, xl_11 (tb := br) T h49 hV ?_ 4 0 0 fb' nq (by omega) (by omega) ?_ ?_⟩
  · intro br' fb' nq' re' hb hr
    exact K br' fb' nq' re' ⟨nc, wd, au_mk (W := W) T h49 (fun p hp => (C.2.1 p hp).2.2) cx_len E N2 hb hr⟩
  · exact ⟨fun i hi => absurd hi (Nat.not_lt_zero _), fun i j hi => absurd hi (Nat.not_lt_zero _), fun n c _ _ z => absurd z.2 (Nat.not_lt_zero _), fun _ _ _ _ _ => rfl, fun n c m _ _ _ _ z => absurd z.2 (Nat.not_lt_zero _), fun i hi => absurd hi (Nat.not_lt_zero _), fun i hi => absurd hi (Nat.not_lt_zero _)⟩
  · exact ⟨fun i j _ hj => absurd hj (Nat.not_lt_zero _), fun j hj => absurd hj (Nat.not_lt_zero _), fun j _ hj => absurd hj (Nat.not_lt_zero _)⟩
end
end
section
/-! the failure function and the step of a column -/
theorem ix_back {a b : Nat} (h : b ≤ a + 1) : nI a - nI b + 1 = nI (a + 1 - b) := by
  rw [show nI a - nI b + 1 = nI a + 1 - nI b from by grind, nI_1, pk_sub h]
def fa_F (rn fl : Nat → Int32) (H : Nat → Nat) (p k : Nat) : Prop := ∀ j, 1 ≤ j → j ≤ k → ∃ f, fl (5 * p + j) = nI f ∧ kp_F (fun i => rn (4 * p + i)) (H p) j f
section
variable {fw fh kc sr : Int32} {tx pw ph pt br fb nq re rn fl fd pg : Nat → Int32} {W H : Nat → Nat} {p : Nat} {post : SX → Prop}
theorem xf_36 {k : Nat} (hp : p < 3) (hk : k < H p) (hH4 : H p ≤ 4) (F : fa_F rn fl H p k) {J : Int32 → Int32 → (Nat → Int32) → (Nat → Int32) → (Nat → Int32) → (Nat → Int32) → (Nat → Int32) → (Nat → Int32) → (Nat → Int32) → (Nat → Int32) → (Nat → Int32) → (Nat → Int32) → (Nat → Int32) → (Nat → Int32) → Prop} :
    ∀ n m, m < n → m < k → (∀ m', kp_N (fun i => rn (4 * p + i)) (H p) m (rn (4 * p + k)) m' → wX_buildFailure_103 post J (nI p) (nI (5 * p)) (nI m') (nI k) fw fh kc sr tx pw ph pt br fb nq re rn fl fd pg) →
      wX_buildFailure_36 post J (nI p) (nI (5 * p)) (nI k) fw fh kc sr tx pw ph pt br fb nq re rn fl fd pg n (nI m) := by
  intro n
  induction n with
  | zero => intro m h1; omega
  | succ n ih =>
    intro m hn hm K
    have h76 : (m = 0 ∨ rn (4 * p + m) = rn (4 * p + k)) → wX_buildFailure_76 post J (nI p) (nI (5 * p)) (nI m) (nI k) fw fh kc sr tx pw ph pt br fb nq re rn fl fd pg := by
      intro h
      simp (disch := omega) only [wX_buildFailure_76, ix_4, nI_clamp, vp_in_nI, true_and, forall_eq, nI_1]
      by_cases e : rn (4 * p + m) = rn (4 * p + k)
      · refine br_t e (K (m + 1) ?_)
        rw [← e]
        exact kp_hit (R := fun i => rn (4 * p + i)) (h := H p) (m := m) (by omega)
      · refine br_f e (K m ?_)
        have h0 : m = 0 := h.resolve_right e
        subst h0
        exact kp_zero (R := fun i => rn (4 * p + i)) (fun _ => e)
    simp (disch := omega) only [wX_buildFailure_36, li_0, ix_4, nI_add, nI_clamp, vp_in_nI, true_and, forall_eq]
    by_cases h0 : m = 0
    · exact br_t h0 (h76 (Or.inl h0))
    · refine br_f h0 ?_
      by_cases e : rn (4 * p + m) = rn (4 * p + k)
      · exact br_t e (h76 (Or.inr e))
      · refine br_f e ?_
        obtain ⟨f, ef, hF⟩ := F m (by omega) (by omega)
        rw [ef]
        have hf := hF.1
        exact ih f (by omega) (by omega) (fun m' hN => K m' (kp_fail (by omega) hF (fun _ => e) hN))
theorem xf_25 (C : cx_P pw ph pt W H) (hp : p < 3) {fl0 : Nat → Int32}
    (K : ∀ fl, fa_F rn fl H p (H p) → (∀ j, j < 5 * p → fl j = fl0 j) → post (fw, fh, kc, sr, tx, pw, ph, pt, br, fb, nq, re, rn, fl, fd, pg)) :
    ∀ n k m fl, H p < n + k → 1 ≤ k → k ≤ H p → fa_F rn fl H p k → kp_F (fun i => rn (4 * p + i)) (H p) k m → (∀ j, j < 5 * p → fl j = fl0 j) →
      wX_buildFailure_25 post (nI p) (nI (5 * p)) fw fh kc sr n (nI m) (nI k) tx pw ph pt br fb nq re rn fl fd pg := by
  obtain ⟨hH, hH1, hH4⟩ := C.2.1 p hp
  intro n
  induction n with
  | zero => intro k m fl h1 h2 h3; omega
  | succ n ih =>
    intro k m fl hn hk1 hk F hF hz
    simp (disch := omega) only [wX_buildFailure_25, hH, nI_leI, nI_clamp, vp_in_nI, true_and]
    refine ⟨fun h => ?_, fun h => ?_⟩
    · have : k = H p := by omega
      subst this
      exact K fl F hz
    · have hm := hF.1
      refine ⟨m + 1, xf_36 hp (by omega) hH4 F (m + 1) m (by omega) hm ?_⟩
      intro m' hN
      have hF2 := kp_next (by omega) hF hN
      have hm2 := hF2.1
      simp (disch := omega) only [wX_buildFailure_103, nI_add, nI_1, nI_clamp, vp_in_nI, true_and, forall_eq, ib_2]
      refine ih (k + 1) m' _ (by omega) (by omega) (by omega) ?_ hF2 ?_
      · intro j h1 h2
        by_cases z : j = k + 1
        · subst z
          exact ⟨m', by rw [← Nat.add_assoc, pk_us], hF2⟩
        · rw [pk_un (by omega)]
          exact F j h1 (by omega)
      · intro j hj
        rw [pk_un (by omega)]
        exact hz j hj
theorem xf_build (C : cx_P pw ph pt W H) (hp : p < 3)
    (K : ∀ fl', fa_F rn fl' H p (H p) → (∀ j, j < 5 * p → fl' j = fl j) → post (fw, fh, kc, sr, tx, pw, ph, pt, br, fb, nq, re, rn, fl', fd, pg)) : wpX_buildFailure post (fw, fh, kc, sr, tx, pw, ph, pt, br, fb, nq, re, rn, fl, fd, pg) (nI p) := by
  obtain ⟨hH, hH1, hH4⟩ := C.2.1 p hp
  simp (disch := omega) only [wpX_buildFailure, ix_50, nI_1, nI_clamp, vp_in_nI, true_and, forall_eq, ib_0]
  refine ⟨5, xf_25 (fl0 := fl) C hp K 5 1 0 _ (by omega) (by omega) (by omega) ?_ kp_F1 ?_⟩
  · intro j h1 h2
    have : j = 1 := by omega
    subst this
    exact ⟨0, pk_us, kp_F1⟩
  · intro j hj
    rw [pk_un (by omega), pk_un (by omega)]
theorem xs_41 (hp : p < 3) (hH4 : H p ≤ 4) (F : fa_F rn fl H p (H p)) {r x2 x3 x5 : Int32} :
    ∀ n m, m < n → m < H p → (∀ m', kp_N (fun i => rn (4 * p + i)) (H p) m r m' → wX_advance_97 post (nI p) x2 x3 x5 (nI m') fw fh kc sr tx pw ph pt br fb nq re rn fl fd pg) →
      wX_advance_41 post (nI p) x2 x3 r x5 fw fh kc sr tx pw ph pt br fb nq re rn fl fd pg n (nI m) := by
  intro n
  induction n with
  | zero => intro m h1; omega
  | succ n ih =>
    intro m hn hm K
    have h78 : (m = 0 ∨ rn (4 * p + m) = r) → wX_advance_78 post (nI p) x2 x3 r x5 (nI m) fw fh kc sr tx pw ph pt br fb nq re rn fl fd pg := by
      intro h
      simp (disch := omega) only [wX_advance_78, ix_4, nI_clamp, vp_in_nI, true_and, forall_eq, nI_1]
      by_cases e : rn (4 * p + m) = r
      · refine br_t e (K (m + 1) ?_)
        rw [← e]
        exact kp_hit (R := fun i => rn (4 * p + i)) (h := H p) (m := m) (by omega)
      · refine br_f e (K m ?_)
        have h0 : m = 0 := h.resolve_right e
        subst h0
        exact kp_zero (R := fun i => rn (4 * p + i)) (fun _ => e)
    simp (disch := omega) only [wX_advance_41, li_0, ix_4, ix_5, nI_clamp, vp_in_nI, true_and, forall_eq]
    by_cases h0 : m = 0
    · exact br_t h0 (h78 (Or.inl h0))
    · refine br_f h0 ?_
      by_cases e : rn (4 * p + m) = r
      · exact br_t e (h78 (Or.inr e))
      · refine br_f e ?_
        obtain ⟨f, ef, hF⟩ := F m (by omega) (by omega)
        rw [ef]
        have hf := hF.1
        exact ih f (by omega) (by omega) (fun m' hN => K m' (kp_fail (by omega) hF (fun _ => e) hN))
theorem xs_97 (C : cx_P pw ph pt W H) (hp : p < 3) {x y m : Nat} (hx : x < 12) (hy : y < 12) (hm : m ≤ H p)
    (h1 : m ≠ H p → post (fw, fh, kc, sr, tx, pw, ph, pt, br, fb, nq, re, rn, fl, fd, upd pg (12 * p + x) (nI m)))
    (h2 : m = H p → H p ≤ y + 1 ∧ W p ≤ x + 1 ∧ post (fw, fh, kc, sr, tx, pw, ph, pt, br, fb, nq, re, rn, fl, upd fd (12 * p + (y + 1 - H p)) (fd (12 * p + (y + 1 - H p)) ||| nI (2 ^ (x + 1 - W p))), upd pg (12 * p + x) (nI m))) :
    wX_advance_97 post (nI p) (nI x) (nI y) (nI (12 * p + x)) (nI m) fw fh kc sr tx pw ph pt br fb nq re rn fl fd pg := by
  obtain ⟨hW, hW1, hW4⟩ := C.1 p hp
  obtain ⟨hH, hH1, hH4⟩ := C.2.1 p hp
  simp (disch := omega) only [wX_advance_97, nI_clamp, vp_in_nI, true_and, forall_eq, ib_2, hH, hW, nI_eq, ix_12]
  refine ⟨fun e => ?_, h1⟩
  obtain ⟨g1, g2, g3⟩ := h2 e
  subst e
  have e1 : nI (12 * p + y) - nI (H p) + 1 = nI (12 * p + (y + 1 - H p)) := by
    rw [ix_back (by omega)]
    congr 1
    omega
  have hpw : 1 * 2 ^ (x + 1 - W p) < 2 ^ 32 := by
    rw [Nat.one_mul]
    exact Nat.pow_lt_pow_right (by decide) (by omega)
  have e2 : (1 : Int32) <<< ((nI x - nI (W p) + 1) &&& 31) = nI (2 ^ (x + 1 - W p)) := by
    rw [ix_back g2]
    have := bz_shl (m := 1) (x := x + 1 - W p) (by omega) hpw
    rw [Nat.one_mul] at this
    exact this
  simp (disch := omega) only [e1, e2, nI_clamp, vp_in_nI, true_and]
  exact g3
theorem xs_adv (C : cx_P pw ph pt W H) (hp : p < 3) (F : fa_F rn fl H p (H p)) {x y m : Nat} {r : Int32} (hx : x < 12) (hm : pg (12 * p + x) = nI m) (hmH : m ≤ H p)
    (K : ∀ m', kp_N (fun i => rn (4 * p + i)) (H p) m r m' → wX_advance_97 post (nI p) (nI x) (nI y) (nI (12 * p + x)) (nI m') fw fh kc sr tx pw ph pt br fb nq re rn fl fd pg) :
    wpX_advance post (fw, fh, kc, sr, tx, pw, ph, pt, br, fb, nq, re, rn, fl, fd, pg) (nI p) (nI x) (nI y) r := by
  obtain ⟨hH, hH1, hH4⟩ := C.2.1 p hp
  simp (disch := omega) only [wpX_advance, nI_clamp, vp_in_nI, true_and, forall_eq, ix_12, hm, hH, nI_eq, ix_5]
  refine ⟨fun e => ?_, fun e => ?_⟩
  · obtain ⟨f, ef, hF⟩ := F m (by omega) (by omega)
    have hf := hF.1
    rw [ef]
    exact ⟨5, xs_41 hp hH4 F 5 f (by omega) (by omega) (fun m' hN => K m' (kp_fail (by omega) hF (fun z => by omega) hN))⟩
  · exact ⟨5, xs_41 hp hH4 F 5 m (by omega) (by omega) K⟩
end
end
section
/-! the search: nodes along a row, columns of row numbers, occurrences -/
def se_nd (br tx : Nat → Int32) (y : Nat) : Nat → Nat
  | 0 => 0
  | x + 1 => (br (3 * se_nd br tx y x + (tx (12 * y + x)).toNatClampNeg)).toNatClampNeg
def se_col (br tx re : Nat → Int32) (p x y : Nat) : Int32 := re (49 * p + se_nd br tx y (x + 1))
def oc_M (tx pt : Nat → Int32) (W H : Nat → Nat) (p x y : Nat) : Prop := ∀ i, i < H p → ∀ j, j < W p → tx (12 * (y + i) + (x + j)) = pt (16 * p + 4 * i + j)
/-- pattern p occurs at (x, y) -/
def oc_O (w h : Nat) (tx pt : Nat → Int32) (W H : Nat → Nat) (p x y : Nat) : Prop := x + W p ≤ w ∧ y + H p ≤ h ∧ oc_M tx pt W H p x y
/-- what found holds: row y of pattern p as a set of bits -/
def oc_F (w h : Nat) (tx pt : Nat → Int32) (W H : Nat → Nat) (fd : Nat → Int32) : Prop :=
  ∀ p y, p < 3 → y < 12 → ∃ m, fd (12 * p + y) = nI m ∧ m < 4096 ∧ ∀ x, m.testBit x = true ↔ oc_O w h tx pt W H p x y
/-- cnt p x: how many rows the column of last places x has seen for pattern p -/
def se_I (w : Nat) (tx pt br re rn : Nat → Int32) (W H : Nat → Nat) (cnt : Nat → Nat → Nat) (pg fd : Nat → Int32) : Prop :=
  (∀ p x, p < 3 → x < w → ∃ m, pg (12 * p + x) = nI m ∧ kp_C (fun i => rn (4 * p + i)) (H p) (se_col br tx re p x) (cnt p x) m) ∧
  (∀ p y, p < 3 → y < 12 → ∃ m, fd (12 * p + y) = nI m ∧ m < 4096 ∧ ∀ x, m.testBit x = true ↔ (x + W p ≤ w ∧ y + H p ≤ cnt p (x + W p - 1) ∧ oc_M tx pt W H p x y))
section
variable {tx pw ph pt br re rn pg fd : Nat → Int32} {W H : Nat → Nat} {w h nc : Nat} {wd : Nat → List Int32} {cnt cnt' : Nat → Nat → Nat}
theorem se_ndI (A : au_A nc wd br re rn H (cx_pr pt W)) (hT : cx_T tx) {y : Nat} (hy : y < 12) : ∀ x, x ≤ 12 → se_nd br tx y x < nc ∧ ac_L (tr_S nc wd) (ac_rl (fun x => tx (12 * y + x)) x) (wd (se_nd br tx y x)) := by
  intro x
  induction x with
  | zero =>
    intro _
    refine ⟨A.1, ?_⟩
    show ac_L _ [] (wd 0)
    rw [A.2.2.1]
    exact ac_self ⟨0, A.1, A.2.2.1⟩
  | succ x ih =>
    intro hx
    obtain ⟨h1, h2⟩ := ih (by omega)
    obtain ⟨c, hc, ec⟩ := hT (12 * y + x) (by omega)
    obtain ⟨m, hm, em, hL⟩ := A.2.2.2.2.1 _ c h1 hc
    have h49 := A.2.1
    have e : se_nd br tx y (x + 1) = m := by
      show (br (3 * se_nd br tx y x + (tx (12 * y + x)).toNatClampNeg)).toNatClampNeg = m
      rw [ec, nI_clamp (by omega), em, nI_clamp (by omega)]
    rw [e]
    refine ⟨hm, ?_⟩
    show ac_L _ (tx (12 * y + x) :: ac_rl (fun x => tx (12 * y + x)) x) (wd m)
    rw [ec]
    exact ac_step A.2.2.2.1 h2 hL
theorem se_hit (A : au_A nc wd br re rn H (cx_pr pt W)) (hT : cx_T tx) {p x y i : Nat} (hp : p < 3) (hi : i < H p) (hx : x < 12) (hy : y < 12) :
    se_col br tx re p x y = rn (4 * p + i) ↔ W p ≤ x + 1 ∧ ∀ j, j < W p → pt (16 * p + 4 * i + j) = tx (12 * y + (x + 1 - W p + j)) := by
  obtain ⟨h1, h2⟩ := se_ndI A hT hy (x + 1) (by omega)
  unfold se_col
  rw [A.2.2.2.2.2.2.1 p _ i hp h1 hi, ← ac_rl_pre (f := fun j => pt (16 * p + 4 * i + j)) (g := fun x => tx (12 * y + x))]
  exact ⟨fun z => z.trans h2.2.1, fun z => h2.2.2 _ (A.2.2.2.2.2.1 p i hp hi) z⟩
theorem se_end (C : cx_P pw ph pt W H) (A : au_A nc wd br re rn H (cx_pr pt W)) (hT : cx_T tx) {p x y m : Nat} (hp : p < 3) (hx : x < 12) (hy : y < 12)
    (hC : kp_C (fun i => rn (4 * p + i)) (H p) (se_col br tx re p x) (y + 1) m) : m = H p ↔ H p ≤ y + 1 ∧ W p ≤ x + 1 ∧ oc_M tx pt W H p (x + 1 - W p) (y + 1 - H p) := by
  obtain ⟨-, hH1, -⟩ := C.2.1 p hp
  rw [kp_Cend hC]
  constructor
  · rintro ⟨h1, h2⟩
    have key : ∀ i, i < H p → W p ≤ x + 1 ∧ ∀ j, j < W p → pt (16 * p + 4 * i + j) = tx (12 * (y + 1 - H p + i) + (x + 1 - W p + j)) :=
      fun i hi => (se_hit A hT hp hi hx (by omega)).mp (h2 i hi).symm
    exact ⟨h1, (key 0 (by omega)).1, fun i hi j hj => ((key i hi).2 j hj).symm⟩
  · rintro ⟨h1, h2, h3⟩
    exact ⟨h1, fun i hi => ((se_hit A hT hp hi hx (by omega)).mpr ⟨h2, fun j hj => (h3 i hi j hj).symm⟩).symm⟩
theorem se_congr (C : cx_P pw ph pt W H) (I : se_I w tx pt br re rn W H cnt pg fd) (e : ∀ p x, p < 3 → x < w → cnt' p x = cnt p x) : se_I w tx pt br re rn W H cnt' pg fd := by
  refine ⟨fun p x hp hx => ?_, fun p y hp hy => ?_⟩
  · rw [e p x hp hx]; exact I.1 p x hp hx
  · obtain ⟨m, h1, h2, h3⟩ := I.2 p y hp hy
    refine ⟨m, h1, h2, fun x => ?_⟩
    rw [h3 x]
    have hW1 := (C.1 p hp).2.1
    constructor
    · rintro ⟨a, b, c⟩
      exact ⟨a, by rw [e p _ hp (by omega)]; exact b, c⟩
    · rintro ⟨a, b, c⟩
      exact ⟨a, by rw [e p _ hp (by omega)] at b; exact b, c⟩
theorem se_zero (h1 : ∀ k, k < 36 → pg k = 0) (h2 : ∀ k, k < 36 → fd k = 0) (C : cx_P pw ph pt W H) (hw : w ≤ 12) : se_I w tx pt br re rn W H (fun _ _ => 0) pg fd := by
  refine ⟨fun p x hp hx => ⟨0, h1 _ (by omega), kp_C0⟩, fun p y hp hy => ⟨0, h2 _ (by omega), by omega, fun x => ?_⟩⟩
  have hH1 := (C.2.1 p hp).2.1
  rw [Nat.zero_testBit]
  exact ⟨fun z => Bool.noConfusion z, fun z => absurd (show y + H p ≤ 0 from z.2.1) (by omega)⟩
theorem se_fin (C : cx_P pw ph pt W H) (I : se_I w tx pt br re rn W H (fun _ _ => h) pg fd) : oc_F w h tx pt W H fd := fun p y hp hy => I.2 p y hp hy
def se_up (cnt : Nat → Nat → Nat) (p x y : Nat) : Nat → Nat → Nat := fun p' x' => if p' = p ∧ x' = x then y + 1 else cnt p' x'
theorem se_ups {p x y : Nat} : se_up cnt p x y p x = y + 1 := if_pos ⟨rfl, rfl⟩
theorem se_upn {p x y p' x' : Nat} (h : ¬ (p' = p ∧ x' = x)) : se_up cnt p x y p' x' = cnt p' x' := if_neg h
theorem se_step (C : cx_P pw ph pt W H) (A : au_A nc wd br re rn H (cx_pr pt W)) (hT : cx_T tx) (hw : w ≤ 12) (I : se_I w tx pt br re rn W H cnt pg fd) {p x y m m' : Nat} (hp : p < 3) (hx : x < w) (hy : y < 12) (hcnt : cnt p x = y)
    (hm : pg (12 * p + x) = nI m) (hm12 : m ≤ H p) (hN : kp_N (fun i => rn (4 * p + i)) (H p) m (se_col br tx re p x y) m') :
    (m' ≠ H p → se_I w tx pt br re rn W H (se_up cnt p x y) (upd pg (12 * p + x) (nI m')) fd) ∧
    (m' = H p → H p ≤ y + 1 ∧ W p ≤ x + 1 ∧ se_I w tx pt br re rn W H (se_up cnt p x y) (upd pg (12 * p + x) (nI m')) (upd fd (12 * p + (y + 1 - H p)) (fd (12 * p + (y + 1 - H p)) ||| nI (2 ^ (x + 1 - W p))))) := by
  obtain ⟨-, hH1, hH4⟩ := C.2.1 p hp
  obtain ⟨-, hW1, hW4⟩ := C.1 p hp
  obtain ⟨m0, e0, hC⟩ := I.1 p x hp hx
  have em : m0 = m := (nI_eq (by have := hC.1; omega) (by omega)).mp (e0.symm.trans hm)
  subst em
  rw [hcnt] at hC
  have hC2 := kp_Cs hC hN
  have hend := se_end C A hT hp (by omega) hy hC2
  have P1 : ∀ p' x', p' < 3 → x' < w → ∃ m, upd pg (12 * p + x) (nI m') (12 * p' + x') = nI m ∧ kp_C (fun i => rn (4 * p' + i)) (H p') (se_col br tx re p' x') (se_up cnt p x y p' x') m := by
    intro p' x' hp' hx'
    by_cases z : p' = p ∧ x' = x
    · obtain ⟨z1, z2⟩ := z
      subst z1 z2
      rw [pk_us, se_ups]
      exact ⟨m', rfl, hC2⟩
    · rw [pk_un (by omega), se_upn z]
      exact I.1 p' x' hp' hx'
  constructor
  · intro hne
    refine ⟨P1, fun p' y' hp' hy' => ?_⟩
    obtain ⟨k, h1, h2, h3⟩ := I.2 p' y' hp' hy'
    refine ⟨k, h1, h2, fun x' => ?_⟩
    rw [h3 x']
    by_cases z : p' = p ∧ x' + W p' - 1 = x
    · obtain ⟨z1, z2⟩ := z
      subst z1
      rw [z2, se_ups, hcnt]
      constructor
      · rintro ⟨a, b, c⟩
        exact ⟨a, by omega, c⟩
      · rintro ⟨a, b, c⟩
        refine ⟨a, ?_, c⟩
        apply Classical.byContradiction
        intro hb
        apply hne
        rw [hend]
        have q1 : x + 1 - W p' = x' := by omega
        have q2 : y + 1 - H p' = y' := by omega
        rw [q1, q2]
        exact ⟨by omega, by omega, c⟩
    · rw [se_upn z]
  · intro heq
    obtain ⟨g1, g2, g3⟩ := hend.mp heq
    refine ⟨g1, g2, P1, fun p' y' hp' hy' => ?_⟩
    obtain ⟨k, h1, h2, h3⟩ := I.2 p' y' hp' hy'
    by_cases y0 : p' = p ∧ y' = y + 1 - H p
    · obtain ⟨y1, y2⟩ := y0
      subst y1
      rw [y2] at h1 h3 ⊢
      have hpw : 2 ^ (x + 1 - W p') < 2 ^ 12 := Nat.pow_lt_pow_right (by decide) (by omega)
      refine ⟨k ||| 2 ^ (x + 1 - W p'), by rw [pk_us, h1, bz_or], Nat.or_lt_two_pow (n := 12) h2 hpw, fun x' => ?_⟩
      rw [Nat.testBit_or, Nat.testBit_two_pow, Bool.or_eq_true, h3 x', decide_eq_true_eq]
      by_cases z : x' + W p' - 1 = x
      · rw [z, se_ups, hcnt]
        have q1 : x + 1 - W p' = x' := by omega
        constructor
        · intro _
          exact ⟨by omega, by omega, by rw [← q1]; exact g3⟩
        · intro _
          exact Or.inr q1
      · rw [se_upn (fun q => z q.2)]
        constructor
        · rintro (q | q)
          · exact q
          · omega
        · exact Or.inl
    · rw [pk_un (by omega)]
      refine ⟨k, h1, h2, fun x' => ?_⟩
      rw [h3 x']
      by_cases z : p' = p ∧ x' + W p' - 1 = x
      · obtain ⟨z1, z2⟩ := z
        subst z1
        rw [z2, se_ups, hcnt]
        have : y' ≠ y + 1 - H p' := fun q => y0 ⟨rfl, q⟩
        constructor
        · rintro ⟨a, b, c⟩
          exact ⟨a, by omega, c⟩
        · rintro ⟨a, b, c⟩
          exact ⟨a, by omega, c⟩
      · rw [se_upn z]
/-- the count at row y, place x, pattern p -/
def se_c (y x p : Nat) : Nat → Nat → Nat := fun p' x' => if x' < x ∨ (x' = x ∧ p' < p) then y + 1 else y
theorem se_c_here {y x p : Nat} : se_c y x p p x = y := if_neg (by omega)
theorem se_c_p {y x p p' x' : Nat} : se_c y x (p + 1) p' x' = se_up (se_c y x p) p x y p' x' := by
  unfold se_c se_up
  by_cases z : p' = p ∧ x' = x
  · rw [if_pos z, if_pos (by omega)]
  · rw [if_neg z]
    dsimp only
    by_cases w : x' < x ∨ (x' = x ∧ p' < p)
    · rw [if_pos w, if_pos (by omega)]
    · rw [if_neg w, if_neg (by omega)]
theorem se_c_x {y x p' x' : Nat} (hp : p' < 3) : se_c y (x + 1) 0 p' x' = se_c y x 3 p' x' := by
  unfold se_c
  by_cases w : x' < x ∨ (x' = x ∧ p' < 3)
  · rw [if_pos w, if_pos (by omega)]
  · rw [if_neg w, if_neg (by omega)]
theorem se_c_y {y w p' x' : Nat} (hx : x' < w) : se_c (y + 1) 0 0 p' x' = se_c y w 0 p' x' := by
  unfold se_c
  rw [if_neg (by omega), if_pos (by omega)]
end
section
variable {fw fh kc sr : Int32} {tx pw ph pt br fb nq re rn fl fd pg : Nat → Int32} {W H : Nat → Nat} {w h nc : Nat} {wd : Nat → List Int32} {post : SX → Prop}
theorem xr_36 (C : cx_P pw ph pt W H) (A : au_A nc wd br re rn H (cx_pr pt W)) (hT : cx_T tx) (hw : w ≤ 12) (F : ∀ p, p < 3 → fa_F rn fl H p (H p)) {x y : Nat} (hx : x < w) (hy : y < 12)
    {J : Int32 → Int32 → Int32 → Int32 → Int32 → Int32 → (Nat → Int32) → (Nat → Int32) → (Nat → Int32) → (Nat → Int32) → (Nat → Int32) → (Nat → Int32) → (Nat → Int32) → (Nat → Int32) → (Nat → Int32) → (Nat → Int32) → (Nat → Int32) → (Nat → Int32) → Prop}
    (K : ∀ pg fd, se_I w tx pt br re rn W H (se_c y (x + 1) 0) pg fd → J (nI (se_nd br tx y (x + 1))) (nI (x + 1)) fw fh kc sr tx pw ph pt br fb nq re rn fl fd pg) :
    ∀ n p pg fd, 3 < n + p → p ≤ 3 → se_I w tx pt br re rn W H (se_c y x p) pg fd → wX_searchRow_36 post J (nI y) (nI (se_nd br tx y (x + 1))) (nI x) n (nI p) fw fh kc sr tx pw ph pt br fb nq re rn fl fd pg := by
  have hnd := (se_ndI A hT hy (x + 1) (by omega)).1
  have h49 := A.2.1
  intro n
  induction n with
  | zero => intro p pg fd h1 h2; omega
  | succ n ih =>
    intro p pg fd hn hp I
    simp (disch := omega) only [wX_searchRow_36, li_3, ix_49, nI_clamp, forall_eq, nI_1]
    refine ⟨fun h => ?_, fun h => ?_⟩
    · have : p = 3 := by omega
      subst this
      exact K pg fd (se_congr C I (fun p' x' hp' _ => se_c_x hp'))
    · have hp3 : p < 3 := by omega
      obtain ⟨m, em, hC⟩ := I.1 p x hp3 hx
      have hmH := hC.1
      refine ⟨vp_in_nI (by omega) (by omega), xs_adv C hp3 (F p hp3) (by omega) em hmH ?_⟩
      intro m' hN
      obtain ⟨s1, s2⟩ := se_step C A hT hw I hp3 hx hy se_c_here em hmH hN
      refine xs_97 C hp3 (by omega) hy hN.1 (fun e => ?_) (fun e => ?_)
      · exact ih (p + 1) _ _ (by omega) (by omega) (se_congr C (s1 e) (fun _ _ _ _ => se_c_p))
      · obtain ⟨g1, g2, g3⟩ := s2 e
        exact ⟨g1, g2, ih (p + 1) _ _ (by omega) (by omega) (se_congr C g3 (fun _ _ _ _ => se_c_p))⟩
theorem xr_4 (C : cx_P pw ph pt W H) (A : au_A nc wd br re rn H (cx_pr pt W)) (hT : cx_T tx) (hw : w ≤ 12) (F : ∀ p, p < 3 → fa_F rn fl H p (H p)) {y : Nat} (hy : y < 12)
    (K : ∀ pg fd, se_I w tx pt br re rn W H (se_c (y + 1) 0 0) pg fd → post (nI w, fh, kc, sr, tx, pw, ph, pt, br, fb, nq, re, rn, fl, fd, pg)) :
    ∀ n x pg fd, w < n + x → x ≤ w → se_I w tx pt br re rn W H (se_c y x 0) pg fd → wX_searchRow_4 post (nI y) n (nI (se_nd br tx y x)) (nI x) (nI w) fh kc sr tx pw ph pt br fb nq re rn fl fd pg := by
  intro n
  induction n with
  | zero => intro x pg fd h1 h2; omega
  | succ n ih =>
    intro x pg fd hn hx I
    have h49 := A.2.1
    simp (disch := omega) only [wX_searchRow_4, nI_leI, ix_12, nI_clamp, forall_eq]
    refine ⟨fun h => ?_, fun h => ?_⟩
    · have : x = w := by omega
      subst this
      exact K pg fd (se_congr C I (fun p' x' _ hx' => se_c_y hx'))
    · obtain ⟨c, hc, ec⟩ := hT (12 * y + x) (by omega)
      have h1 := (se_ndI A hT hy x (by omega)).1
      have h2 := (se_ndI A hT hy (x + 1) (by omega)).1
      obtain ⟨m, hm, em, -⟩ := A.2.2.2.2.1 _ c h1 hc
      have e : se_nd br tx y (x + 1) = m := by
        show (br (3 * se_nd br tx y x + (tx (12 * y + x)).toNatClampNeg)).toNatClampNeg = m
        rw [ec, nI_clamp (by omega), em, nI_clamp (by omega)]
      simp (disch := omega) only [ec, ix_3, nI_clamp, vp_in_nI, true_and, em]
      rw [← e]
      exact ⟨4, xr_36 C A hT hw F (by omega) hy (fun pg' fd' I' => ih (x + 1) pg' fd' (by omega) (by omega) I') 4 0 pg fd (by omega) (by omega) I⟩
theorem xr_65 (C : cx_P pw ph pt W H) (A : au_A nc wd br re rn H (cx_pr pt W)) (hT : cx_T tx) (hw : w ≤ 12) (hh : h ≤ 12) (F : ∀ p, p < 3 → fa_F rn fl H p (H p))
    (K : ∀ pg fd, oc_F w h tx pt W H fd → post (nI w, nI h, kc, sr, tx, pw, ph, pt, br, fb, nq, re, rn, fl, fd, pg)) :
    ∀ n y pg fd, h < n + y → y ≤ h → se_I w tx pt br re rn W H (se_c y 0 0) pg fd → wX_search_65 post n (nI y) (nI w) (nI h) kc sr tx pw ph pt br fb nq re rn fl fd pg := by
  intro n
  induction n with
  | zero => intro y pg fd h1 h2; omega
  | succ n ih =>
    intro y pg fd hn hy I
    simp (disch := omega) only [wX_search_65, nI_leI, forall_eq, nI_1]
    refine ⟨fun g => ?_, fun g => ?_⟩
    · have : y = h := by omega
      subst this
      exact K pg fd (se_fin C (se_congr C I (fun p' x' _ _ => (if_neg (by omega)).symm)))
    · exact ⟨13, xr_4 C A hT hw F (by omega) (fun pg' fd' I' => ih (y + 1) pg' fd' (by omega) (by omega) I') 13 0 pg fd (by omega) (by omega) I⟩
theorem xr_37 (C : cx_P pw ph pt W H) (A : au_A nc wd br re rn H (cx_pr pt W)) (hT : cx_T tx) (hw : w ≤ 12) (hh : h ≤ 12) (F : ∀ p, p < 3 → fa_F rn fl H p (H p))
    (K : ∀ pg fd, oc_F w h tx pt W H fd → post (nI w, nI h, kc, sr, tx, pw, ph, pt, br, fb, nq, re, rn, fl, fd, pg)) :
    ∀ n k pg fd, 36 < n + k → k ≤ 36 → (∀ j, j < k → pg j = 0) → (∀ j, j < k → fd j = 0) → wX_search_37 post (nI w) (nI h) kc sr n (nI k) tx pw ph pt br fb nq re rn fl fd pg := by
  intro n
  induction n with
  | zero => intro k pg fd h1 h2; omega
  | succ n ih =>
    intro k pg fd hn hk hb hr
    simp (disch := omega) only [wX_search_37, li_36, nI_clamp, forall_eq, nI_1, ib_0]
    refine ⟨fun g => ?_, fun g => ?_⟩
    · refine ⟨13, xr_65 C A hT hw hh F K 13 0 pg fd (by omega) (by omega) ?_⟩
      exact se_congr C (se_zero (fun j hj => hb j (by omega)) (fun j hj => hr j (by omega)) C hw) (fun p' x' _ _ => if_neg (by omega))
    · refine ⟨vp_in_nI (by omega) (by omega), vp_in_nI (by omega) (by omega), ih (k + 1) _ _ (by omega) (by omega) ?_ ?_⟩
      · intro j hj
        by_cases z : j = k
        · subst z; exact pk_us
        · rw [pk_un z]; exact hb j (by omega)
      · intro j hj
        by_cases z : j = k
        · subst z; exact pk_us
        · rw [pk_un z]; exact hr j (by omega)
theorem xr_19 (C : cx_P pw ph pt W H) (A : au_A nc wd br re rn H (cx_pr pt W)) (hT : cx_T tx) (hw : w ≤ 12) (hh : h ≤ 12)
    (K : ∀ fl pg fd, oc_F w h tx pt W H fd → post (nI w, nI h, kc, sr, tx, pw, ph, pt, br, fb, nq, re, rn, fl, fd, pg)) :
    ∀ n p fl, 3 < n + p → p ≤ 3 → (∀ p', p' < p → fa_F rn fl H p' (H p')) → wX_search_19 post n (nI p) (nI w) (nI h) kc sr tx pw ph pt br fb nq re rn fl fd pg := by
  intro n
  induction n with
  | zero => intro p fl h1 h2; omega
  | succ n ih =>
    intro p fl hn hp F
    simp (disch := omega) only [wX_search_19, li_3, forall_eq, nI_1]
    refine ⟨fun g => ?_, fun g => ?_⟩
    · exact ⟨37, xr_37 C A hT hw hh (fun p' hp' => F p' (by omega)) (K fl) 37 0 pg fd (by omega) (by omega) (fun j hj => absurd hj (Nat.not_lt_zero _)) (fun j hj => absurd hj (Nat.not_lt_zero _))⟩
    · refine xf_build C (by omega) ?_
      intro fl' hF hz
      refine ih (p + 1) fl' (by omega) (by omega) ?_
      intro p' hp'
      by_cases z : p' = p
      · subst z; exact hF
      · intro j h1 h2
        have hH4 := (C.2.1 p' (by omega)).2.2
        rw [hz _ (by omega)]
        exact F p' (by omega) j h1 h2
theorem xr_search (C : cx_P pw ph pt W H) (hT : cx_T tx) (hw : w ≤ 12) (hh : h ≤ 12) (hs : ¬ sr = 0 → oc_F w h tx pt W H fd)
    (K : ∀ kc' sr' br' fb' nq' re' rn' fl' fd' pg', oc_F w h tx pt W H fd' → post (nI w, nI h, kc', sr', tx, pw, ph, pt, br', fb', nq', re', rn', fl', fd', pg')) :
    wpX_search post (nI w, nI h, kc, sr, tx, pw, ph, pt, br, fb, nq, re, rn, fl, fd, pg) := by
  refine ⟨fun _ => ?_, fun e => K _ _ _ _ _ _ _ _ _ _ (hs e)⟩
  refine xb_build C ?_
  intro kc' br' re' rn' I
  refine xl_link C I ?_
  rintro br2 fb2 nq2 re2 ⟨nc, wd, A⟩
  exact ⟨4, xr_19 C A hT hw hh (fun fl' pg' fd' h => K _ _ _ _ _ _ _ _ _ _ h) 4 0 fl (by omega) (by omega) (fun p' hp' => absurd hp' (Nat.not_lt_zero _))⟩
end
end
section
/-! the tests of the arguments -/
def iq_T (w h : Nat) (x y : Int32) : Prop := ∃ a b, a < w ∧ b < h ∧ x = nI a ∧ y = nI b
def iq_P (p : Int32) : Prop := ∃ a, a < 3 ∧ p = nI a
theorem iq_in {w h : Nat} {x y : Int32} {A B : Prop} (hw : w ≤ 12) (hh : h ≤ 12) (h1 : iq_T w h x y → A) (h0 : ¬ iq_T w h x y → B) :
    (x < 0 → B) ∧ (¬ x < 0 → ((nI w ≤ x → B) ∧ (¬ nI w ≤ x → ((y < 0 → B) ∧ (¬ y < 0 → ((nI h ≤ y → B) ∧ (¬ nI h ≤ y → A))))))) := by
  refine ⟨fun c => h0 ?_, fun c1 => ⟨fun c => h0 ?_, fun c2 => ⟨fun c => h0 ?_, fun c3 => ⟨fun c => h0 ?_, fun c4 => h1 ?_⟩⟩⟩⟩
  · rintro ⟨a, b, ha, hb, rfl, rfl⟩
    exact nI_pos (by omega) c
  · rintro ⟨a, b, ha, hb, rfl, rfl⟩
    exact nI_ge ha (by omega) c
  · rintro ⟨a, b, ha, hb, rfl, rfl⟩
    exact nI_pos (by omega) c
  · rintro ⟨a, b, ha, hb, rfl, rfl⟩
    exact nI_ge hb (by omega) c
  · obtain ⟨a, ha, rfl⟩ := nI_of c1
    obtain ⟨b, hb, rfl⟩ := nI_of c3
    rw [nI_leI (by omega) (by omega)] at c2 c4
    exact ⟨a, b, by omega, by omega, rfl, rfl⟩
theorem iq_pat {p : Int32} {A B : Prop} (h1 : iq_P p → A) (h0 : ¬ iq_P p → B) : (p < 0 → B) ∧ (¬ p < 0 → ((2 < p → B) ∧ (¬ 2 < p → A))) := by
  refine ⟨fun c => h0 ?_, fun c1 => ⟨fun c => h0 ?_, fun c2 => h1 ?_⟩⟩
  · rintro ⟨a, ha, rfl⟩
    exact nI_pos (by omega) c
  · rintro ⟨a, ha, rfl⟩
    exact nI_nlt (a := 2) (b := a) (by omega) (by omega) c
  · obtain ⟨a, ha, rfl⟩ := nI_of c1
    have : ¬ 2 < a := fun z => c2 (nI_lt (a := 2) z (by omega))
    exact ⟨a, by omega, rfl⟩
/-- the part of the text at (x, y) of pattern p's size is in the text -/
def iq_F (w h : Nat) (W H : Nat → Nat) (p : Nat) (x y : Int32) : Prop := ∃ a b, a + W p ≤ w ∧ b + H p ≤ h ∧ x = nI a ∧ y = nI b
section
variable {fw fh kc sr : Int32} {tx pw ph pt br fb nq re rn fl fd pg : Nat → Int32} {W H : Nat → Nat} {w h p : Nat} {x y q : Int32} {post : Int32 → Prop}
theorem xq_in (hw : w ≤ 12) (hh : h ≤ 12) (h1 : iq_T w h x y → post 1) (h0 : ¬ iq_T w h x y → post 0) : wpX_inText post (nI w, nI h, kc, sr, tx, pw, ph, pt, br, fb, nq, re, rn, fl, fd, pg) x y := iq_in hw hh h1 h0
theorem xq_pat (h1 : iq_P q → post 1) (h0 : ¬ iq_P q → post 0) : wpX_isPattern post (fw, fh, kc, sr, tx, pw, ph, pt, br, fb, nq, re, rn, fl, fd, pg) q := iq_pat h1 h0
theorem iq_sub {a b x : Nat} (ha : a ≤ 12) (hb : b ≤ 4) (hba : b ≤ a) (hx : x < 2 ^ 31) : nI a - nI b < nI x ↔ a < x + b := by
  rw [pk_sub hba, nI_ltI (by omega) hx]
  omega
theorem xq_fit (C : cx_P pw ph pt W H) (hw : w ≤ 12) (hh : h ≤ 12) (hw4 : 4 ≤ w) (hh4 : 4 ≤ h) (hp : p < 3) (h1 : iq_F w h W H p x y → post 1) (h0 : ¬ iq_F w h W H p x y → post 0) : wpX_fits post (nI w, nI h, kc, sr, tx, pw, ph, pt, br, fb, nq, re, rn, fl, fd, pg) (nI p) x y := by
  obtain ⟨hW, hW1, hW4⟩ := C.1 p hp
  obtain ⟨hH, hH1, hH4⟩ := C.2.1 p hp
  simp (disch := omega) only [wpX_fits, nI_clamp, vp_in_nI, true_and, hW, hH]
  refine ⟨fun c => h0 ?_, fun c1 => ?_⟩
  · rintro ⟨a, b, ha, hb, rfl, rfl⟩
    exact nI_pos (by omega) c
  · obtain ⟨a, ha, rfl⟩ := nI_of c1
    rw [iq_sub hw hW4 (by omega) ha]
    refine ⟨fun c => h0 ?_, fun c2 => ⟨fun c => h0 ?_, fun c3 => ?_⟩⟩
    · rintro ⟨a', b, ha', hb, e, rfl⟩
      have := (nI_eq ha (by omega)).mp e
      omega
    · rintro ⟨a', b, ha', hb, e, rfl⟩
      exact nI_pos (by omega) c
    · obtain ⟨b, hb, rfl⟩ := nI_of c3
      rw [iq_sub hh hH4 (by omega) hb]
      refine ⟨fun c => h0 ?_, fun c4 => h1 ⟨a, b, by omega, by omega, rfl, rfl⟩⟩
      rintro ⟨a', b', ha', hb', e, e'⟩
      have := (nI_eq hb (by omega)).mp e'
      omega
end
/-! bits of a set -/
def sg_bits (m : Nat) : Nat := sg_s (fun b => (m.testBit b).toNat) 12
theorem sg_bitsP {m : Nat} {P : Nat → Prop} (h : ∀ x, m.testBit x = true ↔ P x) : sg_bits m = sg_s (fun x => sg_b (P x)) 12 := sg_congr (fun i _ => sg_bit (h i))
section
variable {fw fh kc sr : Int32} {tx pw ph pt br fb nq re rn fl fd pg : Nat → Int32} {W H : Nat → Nat} {w h p : Nat}
theorem xc_4 {post : Int32 → Prop} {m : Nat} (hm : m < 2 ^ 31) (K : post (nI (sg_bits m))) :
    ∀ n b, 12 < n + b → b ≤ 12 → wX_bitsIn_4 post (nI m) fw fh kc sr tx pw ph pt br fb nq re rn fl fd pg n (nI (sg_s (fun b => (m.testBit b).toNat) b)) (nI b) := by
  intro n
  induction n with
  | zero => intro b h1 h2; omega
  | succ n ih =>
    intro b hn hb
    simp (disch := omega) only [wX_bitsIn_4, li_12, bz_bit, nI_add, nI_1, forall_eq]
    refine ⟨fun g => ?_, fun g => ?_⟩
    · have : b = 12 := by omega
      subst this
      exact K
    · exact ih (b + 1) (by omega) (by omega)
theorem xc_bits {post : Int32 → Prop} {m : Nat} (hm : m < 2 ^ 31) (K : post (nI (sg_bits m))) : wpX_bitsIn post (fw, fh, kc, sr, tx, pw, ph, pt, br, fb, nq, re, rn, fl, fd, pg) (nI m) := ⟨13, xc_4 hm K 13 0 (by omega) (by omega)⟩
/-! occurrences -/
theorem xo_18 {post : Int32 → SX → Prop} (hh : h ≤ 12) (hp : p < 3) (hF : oc_F w h tx pt W H fd)
    (K : post (nI (sg_s (fun y => sg_s (fun x => sg_b (oc_O w h tx pt W H p x y)) 12) h)) (fw, nI h, kc, sr, tx, pw, ph, pt, br, fb, nq, re, rn, fl, fd, pg)) :
    ∀ n y, h < n + y → y ≤ h → wX_occurrences_18 post (nI p) fw (nI h) kc sr tx pw ph pt br fb nq re rn fl fd pg n (nI (sg_s (fun y => sg_s (fun x => sg_b (oc_O w h tx pt W H p x y)) 12) y)) (nI y) := by
  intro n
  induction n with
  | zero => intro y h1 h2; omega
  | succ n ih =>
    intro y hn hy
    simp (disch := omega) only [wX_occurrences_18, nI_leI, ix_12, nI_clamp, forall_eq]
    refine ⟨fun g => ?_, fun g => ?_⟩
    · have : y = h := by omega
      subst this
      exact K
    · obtain ⟨m, em, hm, hb⟩ := hF p y hp (by omega)
      rw [em]
      refine ⟨vp_in_nI (by omega) (by omega), xc_bits (by omega) ?_⟩
      rw [nI_add, nI_1, sg_bitsP hb]
      exact ih (y + 1) (by omega) (by omega)
/-! occurs -/
theorem xo_bit {x y : Nat} {A B : Prop} (hp : p < 3) (hx : x < 12) (hy : y < 12) (hF : oc_F w h tx pt W H fd) (h0 : ¬ oc_O w h tx pt W H p x y → A) (h1 : oc_O w h tx pt W H p x y → B) :
    (((fd (12 * p + y) >>> (nI x &&& 31)) &&& 1) = 0 → A) ∧ (¬ ((fd (12 * p + y) >>> (nI x &&& 31)) &&& 1) = 0 → B) := by
  obtain ⟨m, em, hm, hb⟩ := hF p y hp hy
  rw [em, bz_bit0 (by omega) (by omega), hb x]
  exact ⟨h0, fun z => h1 (Classical.byContradiction z)⟩
end
/-! next -/
def nx_H (w h : Nat) (tx pt : Nat → Int32) (W H : Nat → Nat) (p : Nat) (from_ : Int32) (k : Nat) : Prop := k < 192 ∧ ¬ nI k < from_ ∧ oc_O w h tx pt W H p (k % 16) (k / 16)
/-- r is the answer of next -/
def nx_A (w h : Nat) (tx pt : Nat → Int32) (W H : Nat → Nat) (p : Nat) (from_ : Int32) (r : Int32) : Prop :=
  (∃ k, r = nI k ∧ nx_H w h tx pt W H p from_ k ∧ ∀ k', k' < k → ¬ nx_H w h tx pt W H p from_ k') ∨ (r = -2 ∧ ∀ k', ¬ nx_H w h tx pt W H p from_ k')
theorem nx_uniq {w h : Nat} {tx pt : Nat → Int32} {W H : Nat → Nat} {p : Nat} {q r r' : Int32} (h1 : nx_A w h tx pt W H p q r) (h2 : nx_A w h tx pt W H p q r') : r' = r := by
  rcases h1 with ⟨k, e, a, b⟩ | ⟨e, a⟩
  · rcases h2 with ⟨k', e', a', b'⟩ | ⟨e', a'⟩
    · have : k' = k := by
        apply Nat.le_antisymm
        · exact Nat.le_of_not_lt (fun z => b' k z a)
        · exact Nat.le_of_not_lt (fun z => b k' z a')
      rw [e, e', this]
    · exact absurd a (a' k)
  · rcases h2 with ⟨k', e', a', b'⟩ | ⟨e', a'⟩
    · exact absurd a' (a k')
    · rw [e, e']
section
variable {fw fh kc sr : Int32} {tx pw ph pt br fb nq re rn fl fd pg : Nat → Int32} {W H : Nat → Nat} {w h p : Nat} {q : Int32} {post : Int32 → SX → Prop}
theorem xn_27 (hw : w ≤ 12) (hp : p < 3) (hF : oc_F w h tx pt W H fd) (hW : 1 ≤ W p) {y : Nat} (hy : y < 12) {J : Int32 → Prop}
    (K : ∀ r, nx_A w h tx pt W H p q r → post r (nI w, nI h, kc, sr, tx, pw, ph, pt, br, fb, nq, re, rn, fl, fd, pg))
    (KJ : (∀ k, k < 16 * (y + 1) → ¬ nx_H w h tx pt W H p q k) → J (nI (y + 1))) :
    ∀ n x, w < n + x → x ≤ w → (∀ k, k < 16 * y + x → ¬ nx_H w h tx pt W H p q k) → wX_next_27 post J (nI p) q (nI y) (nI w) (nI h) kc sr tx pw ph pt br fb nq re rn fl fd pg n (nI x) := by
  intro n
  induction n with
  | zero => intro x h1 h2; omega
  | succ n ih =>
    intro x hn hx I
    have nxt : ¬ nx_H w h tx pt W H p q (16 * y + x) → ∀ k, k < 16 * y + (x + 1) → ¬ nx_H w h tx pt W H p q k := by
      intro hz k hk
      by_cases z : k = 16 * y + x
      · subst z; exact hz
      · exact I k (by omega)
    simp (disch := omega) only [wX_next_27, nI_leI, ix_12, ix_16, nI_clamp, nI_1, forall_eq]
    refine ⟨fun g => KJ ?_, fun g => ?_⟩
    · intro k hk hz
      by_cases z : k < 16 * y + x
      · exact I k z hz
      · have := hz.2.2.1
        omega
    · have hd : (16 * y + x) % 16 = x ∧ (16 * y + x) / 16 = y := ⟨by omega, by omega⟩
      refine ⟨fun c => ih (x + 1) (by omega) (by omega) (nxt (fun z => z.2.1 c)), fun c => ⟨vp_in_nI (by omega) (by omega), ?_⟩⟩
      refine xo_bit hp (by omega) hy hF (fun o => ?_) (fun o => ?_)
      · exact ih (x + 1) (by omega) (by omega) (nxt (fun z => o (by have := z.2.2; rwa [hd.1, hd.2] at this)))
      · exact K _ (Or.inl ⟨16 * y + x, rfl, ⟨by omega, c, by rw [hd.1, hd.2]; exact o⟩, I⟩)
theorem xn_16 (hw : w ≤ 12) (hh : h ≤ 12) (hp : p < 3) (hF : oc_F w h tx pt W H fd) (hW : 1 ≤ W p) (hH : 1 ≤ H p)
    (K : ∀ r, nx_A w h tx pt W H p q r → post r (nI w, nI h, kc, sr, tx, pw, ph, pt, br, fb, nq, re, rn, fl, fd, pg)) :
    ∀ n y, h < n + y → y ≤ h → (∀ k, k < 16 * y → ¬ nx_H w h tx pt W H p q k) → wX_next_16 post (nI p) q (nI w) (nI h) kc sr tx pw ph pt br fb nq re rn fl fd pg n (nI y) := by
  intro n
  induction n with
  | zero => intro y h1 h2; omega
  | succ n ih =>
    intro y hn hy I
    simp (disch := omega) only [wX_next_16, nI_leI]
    refine ⟨fun g => K _ (Or.inr ⟨rfl, ?_⟩), fun g => ?_⟩
    · intro k hz
      by_cases z : k < 16 * y
      · exact I k z hz
      · have := hz.2.2.2.1
        omega
    · exact ⟨13, xn_27 hw hp hF hW (by omega) K (fun I' => ih (y + 1) (by omega) (by omega) I') 13 0 (by omega) (by omega) I⟩
end
end
section
/-! covered -/
/-- (x, y) is covered by an occurrence of pattern p -/
def cv_C (w h : Nat) (tx pt : Nat → Int32) (W H : Nat → Nat) (p x y : Nat) : Prop := ∃ i j, i < H p ∧ j < W p ∧ i ≤ y ∧ j ≤ x ∧ oc_O w h tx pt W H p (x - j) (y - i)
theorem cv_in {w h : Nat} {tx pt : Nat → Int32} {W H : Nat → Nat} {p x y : Nat} (hc : cv_C w h tx pt W H p x y) : x < w ∧ y < h := by
  obtain ⟨i, j, hi, hj, h1, h2, o1, o2, -⟩ := hc
  exact ⟨by omega, by omega⟩
section
variable {fw fh kc sr : Int32} {tx pw ph pt br fb nq re rn fl fd pg : Nat → Int32} {W H : Nat → Nat} {w h p : Nat}
theorem xv_51 {post : Int32 → Prop} (C : cx_P pw ph pt W H) (hp : p < 3) {y g : Nat} (hg : g < 4096) (hgb : ∀ x, g.testBit x = true ↔ ∃ i, i < H p ∧ i ≤ y ∧ oc_O w h tx pt W H p x (y - i))
    (K : ∀ m, m < 2 ^ 16 → (∀ x, m.testBit x = true ↔ cv_C w h tx pt W H p x y) → post (nI m)) :
    ∀ n j m, W p < n + j → j ≤ W p → m < 2 ^ 16 → (∀ x, m.testBit x = true ↔ ∃ i j', i < H p ∧ j' < j ∧ i ≤ y ∧ j' ≤ x ∧ oc_O w h tx pt W H p (x - j') (y - i)) →
      wX_coveredInRow_51 post (nI p) (nI g) fw fh kc sr tx pw ph pt br fb nq re rn fl fd pg n (nI m) (nI j) := by
  obtain ⟨hW, hW1, hW4⟩ := C.1 p hp
  intro n
  induction n with
  | zero => intro j m h1 h2; omega
  | succ n ih =>
    intro j m hn hj hm hb
    simp (disch := omega) only [wX_coveredInRow_51, nI_clamp, vp_in_nI, true_and, hW, nI_leI, nI_1, forall_eq]
    refine ⟨fun g => ?_, fun g' => ?_⟩
    · have : j = W p := by omega
      subst this
      exact K m hm hb
    · have hp2 : 2 ^ j ≤ 2 ^ 3 := Nat.pow_le_pow_right (by decide) (by omega)
      have hlt : g * 2 ^ j < 2 ^ 16 := by
        have : g * 2 ^ j ≤ g * 2 ^ 3 := Nat.mul_le_mul_left _ hp2
        omega
      rw [bz_shl (by omega) (by omega), bz_or]
      refine ih (j + 1) _ (by omega) (by omega) (Nat.or_lt_two_pow hm hlt) ?_
      intro x
      rw [Nat.testBit_or, Nat.testBit_mul_two_pow, Bool.or_eq_true, Bool.and_eq_true, decide_eq_true_eq, hb x, hgb (x - j)]
      constructor
      · rintro (⟨i, j', h1, h2, h3, h4, h5⟩ | ⟨h1, i, h2, h3, h4⟩)
        · exact ⟨i, j', h1, by omega, h3, h4, h5⟩
        · exact ⟨i, j, h2, by omega, h3, h1, h4⟩
      · rintro ⟨i, j', h1, h2, h3, h4, h5⟩
        by_cases z : j' = j
        · subst z; exact Or.inr ⟨h4, i, h1, h3, h5⟩
        · exact Or.inl ⟨i, j', h1, by omega, h3, h4, h5⟩
theorem xv_5 {post : Int32 → Prop} (C : cx_P pw ph pt W H) (hp : p < 3) (hF : oc_F w h tx pt W H fd) {y : Nat} (hy : y < 12)
    (K : ∀ m, m < 2 ^ 16 → (∀ x, m.testBit x = true ↔ cv_C w h tx pt W H p x y) → post (nI m)) :
    ∀ n u g, H p < n + u → u ≤ H p → u ≤ y + 1 → g < 4096 → (∀ x, g.testBit x = true ↔ ∃ i, i < u ∧ i ≤ y ∧ oc_O w h tx pt W H p x (y - i)) →
      wX_coveredInRow_5 post (nI p) (nI y) fw fh kc sr tx pw ph pt br fb nq re rn fl fd pg n (nI g) (nI u) := by
  obtain ⟨hH, hH1, hH4⟩ := C.2.1 p hp
  obtain ⟨hW, hW1, hW4⟩ := C.1 p hp
  have fin : ∀ g, g < 4096 → (∀ x, g.testBit x = true ↔ ∃ i, i < H p ∧ i ≤ y ∧ oc_O w h tx pt W H p x (y - i)) → ∃ n, wX_coveredInRow_51 post (nI p) (nI g) fw fh kc sr tx pw ph pt br fb nq re rn fl fd pg n 0 0 := by
    intro g hg hgb
    refine ⟨5, xv_51 C hp hg hgb K 5 0 0 (by omega) (by omega) (by omega) ?_⟩
    intro x
    rw [Nat.zero_testBit]
    exact ⟨fun z => Bool.noConfusion z, fun ⟨i, j', _, h2, _⟩ => absurd h2 (Nat.not_lt_zero _)⟩
  intro n
  induction n with
  | zero => intro u g h1 h2; omega
  | succ n ih =>
    intro u g hn hu huy hg hgb
    simp (disch := omega) only [wX_coveredInRow_5, nI_clamp, vp_in_nI, true_and, hH, nI_leI, nI_ltI, ix_12, nI_1, forall_eq]
    refine ⟨fun q => ?_, fun q => ⟨fun q2 => ?_, fun q2 => ?_⟩⟩
    · have : u = H p := by omega
      subst this
      exact fin g hg hgb
    · refine fin g hg (fun x => (hgb x).trans ⟨?_, ?_⟩)
      · rintro ⟨i, h1, h2, h3⟩
        exact ⟨i, by omega, h2, h3⟩
      · rintro ⟨i, h1, h2, h3⟩
        exact ⟨i, by omega, h2, h3⟩
    · have e : 12 * p + y - u = 12 * p + (y - u) := by omega
      obtain ⟨m, em, hm, hb⟩ := hF p (y - u) hp (by omega)
      rw [pk_sub (by omega), e, nI_clamp (by omega), em, bz_or]
      refine ⟨vp_in_nI (by omega) (by omega), ih (u + 1) _ (by omega) (by omega) (by omega) (Nat.or_lt_two_pow (n := 12) hg hm) ?_⟩
      intro x
      rw [Nat.testBit_or, Bool.or_eq_true, hgb x, hb x]
      constructor
      · rintro (⟨i, h1, h2, h3⟩ | h1)
        · exact ⟨i, by omega, h2, h3⟩
        · exact ⟨u, by omega, by omega, h1⟩
      · rintro ⟨i, h1, h2, h3⟩
        by_cases z : i = u
        · subst z; exact Or.inr h3
        · exact Or.inl ⟨i, by omega, h2, h3⟩
theorem xv_row {post : Int32 → Prop} (C : cx_P pw ph pt W H) (hp : p < 3) (hF : oc_F w h tx pt W H fd) {y : Nat} (hy : y < 12)
    (K : ∀ m, m < 2 ^ 16 → (∀ x, m.testBit x = true ↔ cv_C w h tx pt W H p x y) → post (nI m)) : wpX_coveredInRow post (fw, fh, kc, sr, tx, pw, ph, pt, br, fb, nq, re, rn, fl, fd, pg) (nI p) (nI y) := by
  refine ⟨5, xv_5 C hp hF hy K 5 0 0 (by have := (C.2.1 p hp).2.2; omega) (by omega) (by omega) (by omega) ?_⟩
  intro x
  rw [Nat.zero_testBit]
  exact ⟨fun z => Bool.noConfusion z, fun ⟨i, h1, _⟩ => absurd h1 (Nat.not_lt_zero _)⟩
/-- some pattern covers (x, y) -/
def cv_A (w h : Nat) (tx pt : Nat → Int32) (W H : Nat → Nat) (x y : Nat) : Prop := ∃ p, p < 3 ∧ cv_C w h tx pt W H p x y
theorem xv_21 {post : Int32 → SX → Prop} (C : cx_P pw ph pt W H) (hF : oc_F w h tx pt W H fd) {y t : Nat} (hy : y < 12) {J : Int32 → Int32 → Prop}
    (K : J (nI (t + sg_s (fun x => sg_b (cv_A w h tx pt W H x y)) 12)) (nI (y + 1))) :
    ∀ n p m, 3 < n + p → p ≤ 3 → m < 2 ^ 16 → (∀ x, m.testBit x = true ↔ ∃ p', p' < p ∧ cv_C w h tx pt W H p' x y) →
      wX_covered_21 post J (nI t) (nI y) fw fh kc sr tx pw ph pt br fb nq re rn fl fd pg n (nI m) (nI p) := by
  intro n
  induction n with
  | zero => intro p m h1 h2; omega
  | succ n ih =>
    intro p m hn hp hm hb
    simp (disch := omega) only [wX_covered_21, li_3, nI_1, forall_eq]
    refine ⟨fun q => ?_, fun q => ?_⟩
    · have : p = 3 := by omega
      subst this
      refine xc_bits (by omega) ?_
      rw [nI_add, sg_bitsP hb]
      exact K
    · refine xv_row C (by omega) hF hy ?_
      intro m' hm' hb'
      rw [bz_or]
      refine ih (p + 1) _ (by omega) (by omega) (Nat.or_lt_two_pow hm hm') ?_
      intro x
      rw [Nat.testBit_or, Bool.or_eq_true, hb x, hb' x]
      constructor
      · rintro (⟨p', h1, h2⟩ | h1)
        · exact ⟨p', by omega, h2⟩
        · exact ⟨p, by omega, h1⟩
      · rintro ⟨p', h1, h2⟩
        by_cases z : p' = p
        · subst z; exact Or.inr h2
        · exact Or.inl ⟨p', by omega, h2⟩
theorem xv_8 {post : Int32 → SX → Prop} (C : cx_P pw ph pt W H) (hh : h ≤ 12) (hF : oc_F w h tx pt W H fd)
    (K : post (nI (sg_s (fun y => sg_s (fun x => sg_b (cv_A w h tx pt W H x y)) 12) h)) (fw, nI h, kc, sr, tx, pw, ph, pt, br, fb, nq, re, rn, fl, fd, pg)) :
    ∀ n y, h < n + y → y ≤ h → wX_covered_8 post fw (nI h) kc sr tx pw ph pt br fb nq re rn fl fd pg n (nI (sg_s (fun y => sg_s (fun x => sg_b (cv_A w h tx pt W H x y)) 12) y)) (nI y) := by
  intro n
  induction n with
  | zero => intro y h1 h2; omega
  | succ n ih =>
    intro y hn hy
    simp (disch := omega) only [wX_covered_8, nI_leI]
    refine ⟨fun q => ?_, fun q => ?_⟩
    · have : y = h := by omega
      subst this
      exact K
    · refine ⟨4, xv_21 C hF (by omega) (ih (y + 1) (by omega) (by omega)) 4 0 0 (by omega) (by omega) (by omega) ?_⟩
      intro x
      rw [Nat.zero_testBit]
      exact ⟨fun z => Bool.noConfusion z, fun ⟨p', h1, _⟩ => absurd h1 (Nat.not_lt_zero _)⟩
end
/-! overlaps -/
noncomputable def ov_g (F G : Nat → Prop) (d a : Nat) : Nat := (if d = 0 ∧ a = 0 then 0 else sg_s (fun x => sg_b (F x) * sg_b (G (x + a))) 12) + (if d = 0 ∨ a = 0 then 0 else sg_s (fun x => sg_b (F (x + a)) * sg_b (G x)) 12)
section
variable {fw fh kc sr : Int32} {tx pw ph pt br fb nq re rn fl fd pg : Nat → Int32} {W H : Nat → Nat} {w h p : Nat}
theorem ov_1 {F G : Nat → Prop} {m1 m2 a : Nat} (h1 : ∀ x, m1.testBit x = true ↔ F x) (h2 : ∀ x, m2.testBit x = true ↔ G x) : sg_bits (m1 &&& (m2 / 2 ^ a)) = sg_s (fun x => sg_b (F x) * sg_b (G (x + a))) 12 := by
  rw [sg_bitsP (P := fun x => F x ∧ G (x + a))]
  · exact sg_congr (fun x _ => sg_band)
  · intro x
    rw [Nat.testBit_and, Nat.testBit_div_two_pow, Bool.and_eq_true, h1, h2]
theorem ov_2 {F G : Nat → Prop} {m1 m2 a : Nat} (h1 : ∀ x, m1.testBit x = true ↔ F x) (h2 : ∀ x, m2.testBit x = true ↔ G x) : sg_bits ((m1 / 2 ^ a) &&& m2) = sg_s (fun x => sg_b (F (x + a)) * sg_b (G x)) 12 := by
  rw [sg_bitsP (P := fun x => F (x + a) ∧ G x)]
  · exact sg_congr (fun x _ => sg_band)
  · intro x
    rw [Nat.testBit_and, Nat.testBit_div_two_pow, Bool.and_eq_true, h1, h2]
theorem xm_57 {post : Int32 → Prop} {F G : Nat → Prop} {m1 m2 d a t : Nat} (hm1 : m1 < 4096) (hm2 : m2 < 4096) (h1 : ∀ x, m1.testBit x = true ↔ F x) (h2 : ∀ x, m2.testBit x = true ↔ G x) (hd : d < 16) (ha : a < 4) (hda : ¬ (d = 0 ∧ a = 0)) {J : Int32 → Int32 → Prop}
    (K : J (nI (t + ov_g F G d a)) (nI (a + 1))) : wX_meetings_57 post J (nI p) (nI d) (nI m1) (nI m2) (nI t) (nI a) fw fh kc sr tx pw ph pt br fb nq re rn fl fd pg := by
  unfold ov_g at K
  rw [if_neg hda] at K
  have l1 : m2 / 2 ^ a < 4096 := Nat.lt_of_le_of_lt (Nat.div_le_self _ _) hm2
  have l2 : m1 / 2 ^ a < 4096 := Nat.lt_of_le_of_lt (Nat.div_le_self _ _) hm1
  have l3 : m1 &&& (m2 / 2 ^ a) < 4096 := Nat.lt_of_le_of_lt Nat.and_le_left hm1
  have l4 : (m1 / 2 ^ a) &&& m2 < 4096 := Nat.lt_of_le_of_lt Nat.and_le_right hm2
  unfold wX_meetings_57
  rw [bz_shr (by omega) (by omega), nx_and, bz_shr (by omega) (by omega), nx_and]
  refine xc_bits (by omega) ?_
  rw [ov_1 h1 h2]
  simp (disch := omega) only [nI_add, nI_1, forall_eq, li_0]
  refine ⟨fun z => ?_, fun z => ⟨fun z2 => ?_, fun z2 => ?_⟩⟩
  · rw [if_pos (Or.inl z), Nat.add_zero] at K
    exact K
  · rw [if_pos (Or.inr z2), Nat.add_zero] at K
    exact K
  · refine xc_bits (by omega) ?_
    rw [ov_2 h1 h2, nI_add]
    rw [if_neg (by omega), ← Nat.add_assoc] at K
    exact K
theorem xm_34 {post : Int32 → Prop} {F G : Nat → Prop} {m1 m2 d : Nat} (C : cx_P pw ph pt W H) (hp : p < 3) (hm1 : m1 < 4096) (hm2 : m2 < 4096) (h1 : ∀ x, m1.testBit x = true ↔ F x) (h2 : ∀ x, m2.testBit x = true ↔ G x) (hd : d < 16)
    (K : post (nI (sg_s (fun a => ov_g F G d a) (W p)))) :
    ∀ n a, W p < n + a → a ≤ W p → wX_meetings_34 post (nI p) (nI d) (nI m1) (nI m2) fw fh kc sr tx pw ph pt br fb nq re rn fl fd pg n (nI (sg_s (fun a => ov_g F G d a) a)) (nI a) := by
  obtain ⟨hW, hW1, hW4⟩ := C.1 p hp
  intro n
  induction n with
  | zero => intro a g1 g2; omega
  | succ n ih =>
    intro a hn ha
    simp (disch := omega) only [wX_meetings_34, nI_clamp, vp_in_nI, true_and, hW, nI_leI, li_z, nI_1, forall_eq]
    refine ⟨fun q => ?_, fun q => ⟨fun z => ⟨fun z2 => ?_, fun z2 => ?_⟩, fun z => ?_⟩⟩
    · have : a = W p := by omega
      subst this
      exact K
    · have e : sg_s (fun a => ov_g F G d a) a = sg_s (fun a => ov_g F G d a) (a + 1) := by
        show _ = _ + ov_g F G d a
        have : ov_g F G d a = 0 := by
          unfold ov_g
          rw [if_pos ⟨z, z2⟩, if_pos (Or.inl z)]
        rw [this, Nat.add_zero]
      rw [e]
      exact ih (a + 1) (by omega) (by omega)
    · exact xm_57 hm1 hm2 h1 h2 hd (by omega) (by omega) (ih (a + 1) (by omega) (by omega))
    · exact xm_57 hm1 hm2 h1 h2 hd (by omega) (by omega) (ih (a + 1) (by omega) (by omega))
/-- the couples of rows y and y + d -/
noncomputable def ov_M (w h : Nat) (tx pt : Nat → Int32) (W H : Nat → Nat) (p y d : Nat) : Nat := sg_s (fun a => ov_g (fun x => oc_O w h tx pt W H p x y) (fun x => oc_O w h tx pt W H p x (y + d)) d a) (W p)
theorem xm_meet {post : Int32 → Prop} {y d : Nat} (C : cx_P pw ph pt W H) (hp : p < 3) (hF : oc_F w h tx pt W H fd) (hy : y + d < 12) (K : post (nI (ov_M w h tx pt W H p y d))) : wpX_meetings post (fw, fh, kc, sr, tx, pw, ph, pt, br, fb, nq, re, rn, fl, fd, pg) (nI p) (nI y) (nI d) := by
  obtain ⟨hW, hW1, hW4⟩ := C.1 p hp
  obtain ⟨m1, e1, l1, b1⟩ := hF p y hp (by omega)
  obtain ⟨m2, e2, l2, b2⟩ := hF p (y + d) hp hy
  simp (disch := omega) only [wpX_meetings, ix_12, nI_add, nI_clamp, vp_in_nI, true_and, forall_eq, Nat.add_assoc, e1, e2]
  exact ⟨5, xm_34 C hp l1 l2 b1 b2 (by omega) K 5 0 (by omega) (by omega)⟩
theorem ov_M0 {y d : Nat} (g : h ≤ y + d) (hH : 1 ≤ H p) : ov_M w h tx pt W H p y d = 0 := by
  have z : ∀ x, sg_b (oc_O w h tx pt W H p x (y + d)) = 0 := fun x => sg_bf (fun o => by have := o.2.1; omega)
  apply sg_zero
  intro a _
  show ov_g _ _ d a = 0
  unfold ov_g
  rw [sg_zero (fun x _ => by rw [z, Nat.mul_zero]), sg_zero (fun x _ => by rw [z, Nat.mul_zero])]
  split <;> split <;> rfl
theorem xm_29 {post : Int32 → SX → Prop} {y t : Nat} (C : cx_P pw ph pt W H) (hp : p < 3) (hh : h ≤ 12) (hF : oc_F w h tx pt W H fd) (hy : y < h) {J : Int32 → Int32 → Prop}
    (K : J (nI (t + sg_s (fun d => ov_M w h tx pt W H p y d) (H p))) (nI (y + 1))) :
    ∀ n d, H p < n + d → d ≤ H p → wX_overlaps_29 post J (nI p) (nI y) fw (nI h) kc sr tx pw ph pt br fb nq re rn fl fd pg n (nI (t + sg_s (fun d => ov_M w h tx pt W H p y d) d)) (nI d) := by
  obtain ⟨hH, hH1, hH4⟩ := C.2.1 p hp
  intro n
  induction n with
  | zero => intro d g1 g2; omega
  | succ n ih =>
    intro d hn hd
    simp (disch := omega) only [wX_overlaps_29, nI_clamp, vp_in_nI, true_and, hH, nI_leI, nI_add, nI_1, forall_eq]
    refine ⟨fun q => ?_, fun q => ⟨fun z => ?_, fun z => ?_⟩⟩
    · have : d = H p := by omega
      subst this
      exact K
    · rw [← sg_tail hd (fun i h1 h2 => ov_M0 (by omega) hH1)]
      exact K
    · refine xm_meet C hp hF (by omega) ?_
      rw [nI_add, Nat.add_assoc]
      exact ih (d + 1) (by omega) (by omega)
theorem xm_18 {post : Int32 → SX → Prop} (C : cx_P pw ph pt W H) (hp : p < 3) (hh : h ≤ 12) (hF : oc_F w h tx pt W H fd)
    (K : post (nI (sg_s (fun y => sg_s (fun d => ov_M w h tx pt W H p y d) (H p)) h)) (fw, nI h, kc, sr, tx, pw, ph, pt, br, fb, nq, re, rn, fl, fd, pg)) :
    ∀ n y, h < n + y → y ≤ h → wX_overlaps_18 post (nI p) fw (nI h) kc sr tx pw ph pt br fb nq re rn fl fd pg n (nI (sg_s (fun y => sg_s (fun d => ov_M w h tx pt W H p y d) (H p)) y)) (nI y) := by
  intro n
  induction n with
  | zero => intro y g1 g2; omega
  | succ n ih =>
    intro y hn hy
    simp (disch := omega) only [wX_overlaps_18, nI_leI]
    refine ⟨fun q => ?_, fun q => ?_⟩
    · have : y = h := by omega
      subst this
      exact K
    · exact ⟨5, xm_29 C hp hh hF (by omega) (ih (y + 1) (by omega) (by omega)) 5 0 (by have := (C.2.1 p hp).2.2; omega) (by omega)⟩
end
end
section
/-! the reference's answers -/
theorem ry_div {k : Nat} (h : k < 192) : nI k / 16 = nI (k / 16) := pk_div (d := 16) (by omega) (by omega) (by omega)
theorem ry_rem {k : Nat} (h : k < 192) : nI k - nI k / 16 * 16 = nI (k % 16) := pk_rem (d := 16) (by omega) (by omega) (by omega)
theorem ry_16 : ¬ (16 : Int32) = 0 := by decide
/-- the two texts -/
def ry_T (tx ty : Nat → Int32) : Prop := ∀ x y, x < 12 → y < 12 → ty (16 * y + x) = tx (12 * y + x)
section
variable {fw fh : Int32} {ty pt pw ph : Nat → Int32} {tx : Nat → Int32} {W H : Nat → Nat} {w h p : Nat} {x y q : Int32} {post : Int32 → Prop}
theorem yq_in (hw : w ≤ 12) (hh : h ≤ 12) (h1 : iq_T w h x y → post 1) (h0 : ¬ iq_T w h x y → post 0) : wpY_inText post (nI w, nI h, ty, pt, pw, ph) x y := iq_in hw hh h1 h0
theorem yq_pat (h1 : iq_P q → post 1) (h0 : ¬ iq_P q → post 0) : wpY_isPattern post (fw, fh, ty, pt, pw, ph) q := iq_pat h1 h0
theorem yq_let (h1 : iq_P q → post 1) (h0 : ¬ iq_P q → post 0) : wpY_isLetter post (fw, fh, ty, pt, pw, ph) q := iq_pat h1 h0
theorem yq_fit (C : cx_P pw ph pt W H) (hw : w ≤ 12) (hh : h ≤ 12) (hw4 : 4 ≤ w) (hh4 : 4 ≤ h) (hp : p < 3) (h1 : iq_F w h W H p x y → post 1) (h0 : ¬ iq_F w h W H p x y → post 0) : wpY_fits post (nI w, nI h, ty, pt, pw, ph) (nI p) x y := by
  obtain ⟨hW, hW1, hW4⟩ := C.1 p hp
  obtain ⟨hH, hH1, hH4⟩ := C.2.1 p hp
  unfold wpY_fits
  refine yq_pat (fun _ => br_f (by decide) ?_) (fun z => absurd ⟨p, hp, rfl⟩ z)
  refine yq_in hw hh (fun z => br_f (by decide) ?_) (fun z => br_t rfl (h0 ?_))
  · obtain ⟨a, b, ha, hb, rfl, rfl⟩ := z
    simp (disch := omega) only [nI_clamp, vp_in_nI, true_and, hW, hH]
    rw [iq_sub hw hW4 (by omega) (by omega), iq_sub hh hH4 (by omega) (by omega)]
    refine ⟨fun c => h0 ?_, fun c => ⟨fun c2 => h0 ?_, fun c2 => h1 ⟨a, b, by omega, by omega, rfl, rfl⟩⟩⟩
    · rintro ⟨a', b', ha', hb', e, e'⟩
      have := (nI_eq (by omega) (by omega)).mp e
      omega
    · rintro ⟨a', b', ha', hb', e, e'⟩
      have := (nI_eq (by omega) (by omega)).mp e'
      omega
  · rintro ⟨a, b, ha, hb, e, e'⟩
    exact z ⟨a, b, by omega, by omega, e, e'⟩
theorem yo_29 (C : cx_P pw ph pt W H) (hR : ry_T tx ty) (hp : p < 3) {a b i : Nat} (ha : a + W p ≤ 12) (hb : b + i < 12) (hi : i < H p) {J : Int32 → Prop}
    (K1 : (∀ j, j < W p → tx (12 * (b + i) + (a + j)) = pt (16 * p + 4 * i + j)) → J (nI (i + 1)))
    (K0 : ¬ (∀ j, j < W p → tx (12 * (b + i) + (a + j)) = pt (16 * p + 4 * i + j)) → post 0) :
    ∀ n j, W p < n + j → j ≤ W p → (∀ j', j' < j → tx (12 * (b + i) + (a + j')) = pt (16 * p + 4 * i + j')) → wY_occurs_29 post J (nI p) (nI a) (nI b) (nI i) fw fh ty pt pw ph n (nI j) := by
  obtain ⟨hW, hW1, hW4⟩ := C.1 p hp
  obtain ⟨hH, hH1, hH4⟩ := C.2.1 p hp
  intro n
  induction n with
  | zero => intro j g1 g2; omega
  | succ n ih =>
    intro j hn hj I
    simp (disch := omega) only [wY_occurs_29, nI_clamp, vp_in_nI, true_and, hW, nI_leI, ix_ty, ix_p, nI_1, forall_eq]
    refine ⟨fun g => ?_, fun g => ?_⟩
    · have : j = W p := by omega
      subst this
      exact K1 I
    · rw [hR (a + j) (b + i) (by omega) (by omega)]
      refine ⟨vp_in_nI (by omega) (by omega), fun e => ?_, fun e => K0 (fun z => e (z j (by omega)))⟩
      refine ih (j + 1) (by omega) (by omega) ?_
      intro j' hj'
      by_cases z : j' = j
      · subst z; exact e
      · exact I j' (by omega)
theorem yo_15 (C : cx_P pw ph pt W H) (hR : ry_T tx ty) (hp : p < 3) {a b : Nat} (ha : a + W p ≤ 12) (hb : b + H p ≤ 12)
    (K1 : oc_M tx pt W H p a b → post 1) (K0 : ¬ oc_M tx pt W H p a b → post 0) :
    ∀ n i, H p < n + i → i ≤ H p → (∀ i', i' < i → ∀ j, j < W p → tx (12 * (b + i') + (a + j)) = pt (16 * p + 4 * i' + j)) → wY_occurs_15 post (nI p) (nI a) (nI b) fw fh ty pt pw ph n (nI i) := by
  obtain ⟨hW, hW1, hW4⟩ := C.1 p hp
  obtain ⟨hH, hH1, hH4⟩ := C.2.1 p hp
  intro n
  induction n with
  | zero => intro i g1 g2; omega
  | succ n ih =>
    intro i hn hi I
    simp (disch := omega) only [wY_occurs_15, nI_clamp, vp_in_nI, true_and, hH, nI_leI]
    refine ⟨fun g => ?_, fun g => ?_⟩
    · have : i = H p := by omega
      subst this
      exact K1 I
    · refine ⟨5, yo_29 C hR hp ha (by omega) (by omega) (fun r => ?_) (fun r => K0 (fun z => r (z i (by omega)))) 5 0 (by omega) (by omega) (fun j hj => absurd hj (Nat.not_lt_zero _))⟩
      refine ih (i + 1) (by omega) (by omega) ?_
      intro i' hi'
      by_cases z : i' = i
      · subst z; exact r
      · exact I i' (by omega)
/-- an occurrence at int coordinates -/
def ry_O (w h : Nat) (tx pt : Nat → Int32) (W H : Nat → Nat) (p : Nat) (x y : Int32) : Prop := ∃ a b, x = nI a ∧ y = nI b ∧ oc_O w h tx pt W H p a b
theorem yo_occ (C : cx_P pw ph pt W H) (hR : ry_T tx ty) (hw : w ≤ 12) (hh : h ≤ 12) (hw4 : 4 ≤ w) (hh4 : 4 ≤ h) (hp : p < 3)
    (K1 : ry_O w h tx pt W H p x y → post 1) (K0 : ¬ ry_O w h tx pt W H p x y → post 0) : wpY_occurs post (nI w, nI h, ty, pt, pw, ph) (nI p) x y := by
  unfold wpY_occurs
  refine yq_fit C hw hh hw4 hh4 hp (fun z => br_f (by decide) ?_) (fun z => br_t rfl (K0 ?_))
  · obtain ⟨a, b, ha, hb, rfl, rfl⟩ := z
    have hH1 := (C.2.1 p hp).2.1
    have hW1 := (C.1 p hp).2.1
    refine ⟨5, yo_15 C hR hp (by omega) (by omega) (fun r => K1 ⟨a, b, rfl, rfl, ha, hb, r⟩) (fun r => K0 ?_) 5 0 (by have := (C.2.1 p hp).2.2; omega) (by omega) (fun j hj => absurd hj (Nat.not_lt_zero _))⟩
    rintro ⟨a', b', e, e', h1, h2, h3⟩
    have q1 := (nI_eq (by omega) (by omega)).mp e
    have q2 := (nI_eq (by omega) (by omega)).mp e'
    subst q1 q2
    exact r h3
  · rintro ⟨a, b, e, e', h1, h2, h3⟩
    exact z ⟨a, b, h1, h2, e, e'⟩
theorem ry_Oi {a b : Nat} (hw : w ≤ 12) (hh : h ≤ 12) (ha : a < 2 ^ 31) (hb : b < 2 ^ 31) : ry_O w h tx pt W H p (nI a) (nI b) ↔ oc_O w h tx pt W H p a b := by
  constructor
  · rintro ⟨a', b', e, e', o⟩
    have h1 := o.1
    have h2 := o.2.1
    have q1 := (nI_eq ha (by omega)).mp e
    have q2 := (nI_eq hb (by omega)).mp e'
    rw [q1, q2]; exact o
  · intro o
    exact ⟨a, b, rfl, rfl, o⟩
theorem yo_at (C : cx_P pw ph pt W H) (hR : ry_T tx ty) (hw : w ≤ 12) (hh : h ≤ 12) (hw4 : 4 ≤ w) (hh4 : 4 ≤ h) (hp : p < 3) {a b : Nat} (ha : a < 2 ^ 31) (hb : b < 2 ^ 31)
    (K1 : oc_O w h tx pt W H p a b → post 1) (K0 : ¬ oc_O w h tx pt W H p a b → post 0) : wpY_occurs post (nI w, nI h, ty, pt, pw, ph) (nI p) (nI a) (nI b) :=
  yo_occ C hR hw hh hw4 hh4 hp (fun z => K1 ((ry_Oi hw hh ha hb).mp z)) (fun z => K0 (fun o => z ((ry_Oi hw hh ha hb).mpr o)))
/-! occurrences -/
theorem yr_14 (C : cx_P pw ph pt W H) (hR : ry_T tx ty) (hw : w ≤ 12) (hh : h ≤ 12) (hw4 : 4 ≤ w) (hh4 : 4 ≤ h) (hp : p < 3)
    (K : post (nI (sg_s (fun k => sg_b (oc_O w h tx pt W H p (k % 16) (k / 16))) 192))) :
    ∀ n k, 192 < n + k → k ≤ 192 → wY_occurrences_14 post (nI p) (nI w) (nI h) ty pt pw ph n (nI (sg_s (fun k => sg_b (oc_O w h tx pt W H p (k % 16) (k / 16))) k)) (nI k) := by
  intro n
  induction n with
  | zero => intro k g1 g2; omega
  | succ n ih =>
    intro k hn hk
    have ih' := ih (k + 1)
    simp (disch := omega) only [wY_occurrences_14, li_192]
    refine ⟨fun g => ?_, fun g => ⟨ry_16, ry_16, ?_⟩⟩
    · have : k = 192 := by omega
      subst this
      exact K
    · rw [ry_rem (by omega), ry_div (by omega)]
      refine yo_at C hR hw hh hw4 hh4 hp (by omega) (by omega) (fun o => br_f (by decide) (nm_r (nI_1 _) (nm_r (nI_1 _) ?_))) (fun o => br_t rfl (nm_r (nI_1 _) ?_))
      · have e : sg_s (fun k => sg_b (oc_O w h tx pt W H p (k % 16) (k / 16))) (k + 1) = sg_s (fun k => sg_b (oc_O w h tx pt W H p (k % 16) (k / 16))) k + 1 := by
          show _ + sg_b _ = _
          rw [sg_bt o]
        rw [← e]
        exact ih (k + 1) (by omega) (by omega)
      · have e : sg_s (fun k => sg_b (oc_O w h tx pt W H p (k % 16) (k / 16))) (k + 1) = sg_s (fun k => sg_b (oc_O w h tx pt W H p (k % 16) (k / 16))) k := by
          show _ + sg_b _ = _
          rw [sg_bf o, Nat.add_zero]
        rw [← e]
        exact ih (k + 1) (by omega) (by omega)
/-! next -/
theorem yn_12 (C : cx_P pw ph pt W H) (hR : ry_T tx ty) (hw : w ≤ 12) (hh : h ≤ 12) (hw4 : 4 ≤ w) (hh4 : 4 ≤ h) (hp : p < 3)
    (K : ∀ r, nx_A w h tx pt W H p q r → post r) :
    ∀ n k, 192 < n + k → k ≤ 192 → (∀ k', k' < k → ¬ nx_H w h tx pt W H p q k') → wY_next_12 post (nI p) q (nI w) (nI h) ty pt pw ph n (nI k) := by
  intro n
  induction n with
  | zero => intro k g1 g2; omega
  | succ n ih =>
    intro k hn hk I
    have nxt : ¬ nx_H w h tx pt W H p q k → ∀ k', k' < k + 1 → ¬ nx_H w h tx pt W H p q k' := by
      intro hz k' hk'
      by_cases z : k' = k
      · subst z; exact hz
      · exact I k' (by omega)
    simp (disch := omega) only [wY_next_12, li_192, nI_1, forall_eq]
    refine ⟨fun g => K _ (Or.inr ⟨rfl, fun k' hz => ?_⟩), fun g => ⟨fun c => ?_, fun c => ⟨ry_16, ry_16, ?_⟩⟩⟩
    · exact I k' (by have := hz.1; omega) hz
    · exact ih (k + 1) (by omega) (by omega) (nxt (fun z => z.2.1 c))
    · rw [ry_rem (by omega), ry_div (by omega)]
      refine yo_at C hR hw hh hw4 hh4 hp (by omega) (by omega) (fun o => br_f (by decide) ?_) (fun o => br_t rfl ?_)
      · exact K _ (Or.inl ⟨k, rfl, ⟨by omega, c, o⟩, I⟩)
      · exact ih (k + 1) (by omega) (by omega) (nxt (fun z => o z.2.2))
/-! covered -/
theorem ry_Os {a b i j : Nat} (hw : w ≤ 12) (hh : h ≤ 12) (ha : a < 16) (hb : b < 16) (hi : i < 4) (hj : j < 4) : ry_O w h tx pt W H p (nI a - nI j) (nI b - nI i) ↔ (i ≤ b ∧ j ≤ a ∧ oc_O w h tx pt W H p (a - j) (b - i)) := by
  by_cases h1 : j ≤ a
  · by_cases h2 : i ≤ b
    · rw [pk_sub h1, pk_sub h2, ry_Oi hw hh (by omega) (by omega)]
      exact ⟨fun z => ⟨h2, h1, z⟩, fun z => z.2.2⟩
    · constructor
      · rintro ⟨a', b', -, e, o⟩
        have h3 := o.2.1
        have := pk_sneg (a := b) (b := i) (by omega) (by omega)
        rw [e] at this
        exact absurd this (nI_pos (by omega))
      · intro z; exact absurd z.1 h2
  · constructor
    · rintro ⟨a', b', e, -, o⟩
      have h3 := o.1
      have := pk_sneg (a := a) (b := j) (by omega) (by omega)
      rw [e] at this
      exact absurd this (nI_pos (by omega))
    · intro z; exact absurd z.2.1 h1
theorem yc_17 (C : cx_P pw ph pt W H) (hR : ry_T tx ty) (hw : w ≤ 12) (hh : h ≤ 12) (hw4 : 4 ≤ w) (hh4 : 4 ≤ h) (hp : p < 3) {a b i : Nat} (ha : a < 16) (hb : b < 16) (hi : i < H p) {J : Int32 → Prop}
    (K1 : cv_C w h tx pt W H p a b → post 1) (KJ : (∀ j, j < W p → ¬ (i ≤ b ∧ j ≤ a ∧ oc_O w h tx pt W H p (a - j) (b - i))) → J (nI (i + 1))) :
    ∀ n j, W p < n + j → j ≤ W p → (∀ j', j' < j → ¬ (i ≤ b ∧ j' ≤ a ∧ oc_O w h tx pt W H p (a - j') (b - i))) → wY_coveredBy_17 post J (nI p) (nI a) (nI b) (nI i) (nI w) (nI h) ty pt pw ph n (nI j) := by
  obtain ⟨hW, hW1, hW4⟩ := C.1 p hp
  obtain ⟨hH, hH1, hH4⟩ := C.2.1 p hp
  intro n
  induction n with
  | zero => intro j g1 g2; omega
  | succ n ih =>
    intro j hn hj I
    simp (disch := omega) only [wY_coveredBy_17, nI_clamp, vp_in_nI, true_and, hW, nI_leI, nI_1, forall_eq]
    refine ⟨fun g => ?_, fun g => ?_⟩
    · have : j = W p := by omega
      subst this
      exact KJ I
    · refine yo_occ C hR hw hh hw4 hh4 hp (fun o => br_f (by decide) ?_) (fun o => br_t rfl ?_)
      · rw [ry_Os hw hh ha hb (by omega) (by omega)] at o
        exact K1 ⟨i, j, hi, by omega, o.1, o.2.1, o.2.2⟩
      · rw [ry_Os hw hh ha hb (by omega) (by omega)] at o
        refine ih (j + 1) (by omega) (by omega) ?_
        intro j' hj'
        by_cases z : j' = j
        · subst z; exact o
        · exact I j' (by omega)
theorem yc_3 (C : cx_P pw ph pt W H) (hR : ry_T tx ty) (hw : w ≤ 12) (hh : h ≤ 12) (hw4 : 4 ≤ w) (hh4 : 4 ≤ h) (hp : p < 3) {a b : Nat} (ha : a < 16) (hb : b < 16)
    (K1 : cv_C w h tx pt W H p a b → post 1) (K0 : ¬ cv_C w h tx pt W H p a b → post 0) :
    ∀ n i, H p < n + i → i ≤ H p → (∀ i', i' < i → ∀ j, j < W p → ¬ (i' ≤ b ∧ j ≤ a ∧ oc_O w h tx pt W H p (a - j) (b - i'))) → wY_coveredBy_3 post (nI p) (nI a) (nI b) (nI w) (nI h) ty pt pw ph n (nI i) := by
  obtain ⟨hW, hW1, hW4⟩ := C.1 p hp
  obtain ⟨hH, hH1, hH4⟩ := C.2.1 p hp
  intro n
  induction n with
  | zero => intro i g1 g2; omega
  | succ n ih =>
    intro i hn hi I
    simp (disch := omega) only [wY_coveredBy_3, nI_clamp, vp_in_nI, true_and, hH, nI_leI]
    refine ⟨fun g => K0 ?_, fun g => ?_⟩
    · rintro ⟨i', j, h1, h2, h3, h4, h5⟩
      exact I i' (by omega) j h2 ⟨h3, h4, h5⟩
    · refine ⟨5, yc_17 C hR hw hh hw4 hh4 hp ha hb (by omega) K1 (fun r => ?_) 5 0 (by omega) (by omega) (fun j hj => absurd hj (Nat.not_lt_zero _))⟩
      refine ih (i + 1) (by omega) (by omega) ?_
      intro i' hi'
      by_cases z : i' = i
      · subst z; exact r
      · exact I i' (by omega)
theorem yc_by (C : cx_P pw ph pt W H) (hR : ry_T tx ty) (hw : w ≤ 12) (hh : h ≤ 12) (hw4 : 4 ≤ w) (hh4 : 4 ≤ h) (hp : p < 3) {a b : Nat} (ha : a < 16) (hb : b < 16)
    (K1 : cv_C w h tx pt W H p a b → post 1) (K0 : ¬ cv_C w h tx pt W H p a b → post 0) : wpY_coveredBy post (nI w, nI h, ty, pt, pw, ph) (nI p) (nI a) (nI b) :=
  ⟨5, yc_3 C hR hw hh hw4 hh4 hp ha hb K1 K0 5 0 (by have := (C.2.1 p hp).2.2; omega) (by omega) (fun j hj => absurd hj (Nat.not_lt_zero _))⟩
theorem yc_4 (C : cx_P pw ph pt W H) (hR : ry_T tx ty) (hw : w ≤ 12) (hh : h ≤ 12) (hw4 : 4 ≤ w) (hh4 : 4 ≤ h)
    (K : post (nI (sg_s (fun k => sg_b (cv_A w h tx pt W H (k % 16) (k / 16))) 192))) :
    ∀ n k, 192 < n + k → k ≤ 192 → wY_covered_4 post (nI w) (nI h) ty pt pw ph n (nI (sg_s (fun k => sg_b (cv_A w h tx pt W H (k % 16) (k / 16))) k)) (nI k) := by
  intro n
  induction n with
  | zero => intro k g1 g2; omega
  | succ n ih =>
    intro k hn hk
    have up1 : cv_A w h tx pt W H (k % 16) (k / 16) → k < 192 → wY_covered_4 post (nI w) (nI h) ty pt pw ph n (nI (sg_s (fun k => sg_b (cv_A w h tx pt W H (k % 16) (k / 16))) k + 1)) (nI (k + 1)) := by
      intro o g
      have e : sg_s (fun k => sg_b (cv_A w h tx pt W H (k % 16) (k / 16))) (k + 1) = sg_s (fun k => sg_b (cv_A w h tx pt W H (k % 16) (k / 16))) k + 1 := by
        show _ + sg_b _ = _
        rw [sg_bt o]
      rw [← e]
      exact ih (k + 1) (by omega) (by omega)
    have up0 : ¬ cv_A w h tx pt W H (k % 16) (k / 16) → k < 192 → wY_covered_4 post (nI w) (nI h) ty pt pw ph n (nI (sg_s (fun k => sg_b (cv_A w h tx pt W H (k % 16) (k / 16))) k)) (nI (k + 1)) := by
      intro o g
      have e : sg_s (fun k => sg_b (cv_A w h tx pt W H (k % 16) (k / 16))) (k + 1) = sg_s (fun k => sg_b (cv_A w h tx pt W H (k % 16) (k / 16))) k := by
        show _ + sg_b _ = _
        rw [sg_bf o, Nat.add_zero]
      rw [← e]
      exact ih (k + 1) (by omega) (by omega)
    simp (disch := omega) only [wY_covered_4, li_192]
    refine ⟨fun g => ?_, fun g => ⟨ry_16, nm_r (ry_rem (by omega)) ⟨ry_16, nm_r (ry_div (by omega)) ?_⟩⟩⟩
    · have : k = 192 := by omega
      subst this
      exact K
    · refine yq_in hw hh (fun z => br_f (by decide) ?_) (fun z => br_t rfl (nm_r (nI_1 _) (up0 ?_ (by omega))))
      · refine yc_by (p := 0) C hR hw hh hw4 hh4 (by omega) (by omega) (by omega) (fun o => br_f (by decide) (nm_r (nI_1 _) (nm_r (nI_1 _) (up1 ⟨0, by omega, o⟩ (by omega))))) (fun o0 => br_t rfl ?_)
        refine yc_by (p := 1) C hR hw hh hw4 hh4 (by omega) (by omega) (by omega) (fun o => br_f (by decide) (nm_r (nI_1 _) (nm_r (nI_1 _) (up1 ⟨1, by omega, o⟩ (by omega))))) (fun o1 => br_t rfl ?_)
        refine yc_by (p := 2) C hR hw hh hw4 hh4 (by omega) (by omega) (by omega) (fun o => br_f (by decide) (nm_r (nI_1 _) (nm_r (nI_1 _) (up1 ⟨2, by omega, o⟩ (by omega))))) (fun o2 => br_t rfl (nm_r (nI_1 _) (up0 ?_ (by omega))))
        rintro ⟨p, hp, o⟩
        rcases (by omega : p = 0 ∨ p = 1 ∨ p = 2) with e | e | e
        · subst e; exact o0 o
        · subst e; exact o1 o
        · subst e; exact o2 o
      · rintro ⟨p, hp, o⟩
        obtain ⟨h1, h2⟩ := cv_in o
        exact z ⟨k % 16, k / 16, h1, h2, rfl, rfl⟩
/-! overlaps -/
noncomputable def yv_f (w h : Nat) (tx pt : Nat → Int32) (W H : Nat → Nat) (p k k2 : Nat) : Nat :=
  sg_b (k < k2 ∧ k2 % 16 < k % 16 + W p ∧ k % 16 < k2 % 16 + W p ∧ k2 / 16 < k / 16 + H p ∧ oc_O w h tx pt W H p (k % 16) (k / 16) ∧ oc_O w h tx pt W H p (k2 % 16) (k2 / 16))
theorem yv_1 {a b c : Nat} (ha : a < 192) (hb : b < 192) (hc : c ≤ 4) : nI c ≤ nI a - nI b ↔ b + c ≤ a := by
  rw [Int32.le_iff_toInt_le, pk_sub_toInt (by omega) (by omega), nI_toInt (by omega)]
  omega
theorem yv_2 {a b c : Nat} (ha : a < 192) (hb : b < 192) (hc : c ≤ 4) : nI c ≤ -(nI a - nI b) ↔ a + c ≤ b := by
  rw [Int32.neg_sub]
  exact yv_1 hb ha hc
theorem yv_97 (C : cx_P pw ph pt W H) (hR : ry_T tx ty) (hw : w ≤ 12) (hh : h ≤ 12) (hw4 : 4 ≤ w) (hh4 : 4 ≤ h) (hp : p < 3) {k k2 t : Nat} (hk : k < 192) (hk2 : k2 < 192) {J J' : Int32 → Int32 → Prop}
    (K1 : oc_O w h tx pt W H p (k % 16) (k / 16) ∧ oc_O w h tx pt W H p (k2 % 16) (k2 / 16) → J' (nI (t + 1)) (nI (k2 + 1)))
    (K0 : ¬ (oc_O w h tx pt W H p (k % 16) (k / 16) ∧ oc_O w h tx pt W H p (k2 % 16) (k2 / 16)) → J' (nI t) (nI (k2 + 1))) :
    wY_overlaps_97 post J J' (nI p) (nI t) (nI k) (nI k2) 1 (nI w) (nI h) ty pt pw ph := by
  unfold wY_overlaps_97
  rw [ry_rem hk, ry_div hk, ry_rem hk2, ry_div hk2]
  refine br_f (by decide) ⟨ry_16, ry_16, ?_⟩
  refine yo_at C hR hw hh hw4 hh4 hp (by omega) (by omega) (fun o => br_f (by decide) ⟨ry_16, ry_16, ?_⟩) (fun o => br_t rfl (nm_r (nI_1 _) (K0 (fun z => o z.1))))
  exact yo_at C hR hw hh hw4 hh4 hp (by omega) (by omega) (fun o2 => br_f (by decide) (nm_r (nI_1 _) (nm_r (nI_1 _) (K1 ⟨o, o2⟩)))) (fun o2 => br_t rfl (nm_r (nI_1 _) (K0 (fun z => o2 z.2))))
theorem yv_96 {k k2 t : Nat} {J J' : Int32 → Int32 → Prop} (K0 : J' (nI t) (nI (k2 + 1))) : wY_overlaps_96 post J J' (nI p) (nI t) (nI k) (nI k2) fw fh ty pt pw ph := by
  unfold wY_overlaps_96 wY_overlaps_97
  exact br_t rfl (nm_r (nI_1 _) K0)
theorem yv_26 (C : cx_P pw ph pt W H) (hR : ry_T tx ty) (hw : w ≤ 12) (hh : h ≤ 12) (hw4 : 4 ≤ w) (hh4 : 4 ≤ h) (hp : p < 3) {k t : Nat} (hk : k < 192) {J : Int32 → Int32 → Prop}
    (K : J (nI (t + sg_s (fun k2 => yv_f w h tx pt W H p k k2) 192)) (nI (k + 1))) :
    ∀ n k2, 192 < n + k2 → k2 ≤ 192 → k < k2 → wY_overlaps_26 post J (nI p) (nI k) (nI w) (nI h) ty pt pw ph n (nI (t + sg_s (fun k2 => yv_f w h tx pt W H p k k2) k2)) (nI k2) := by
  obtain ⟨hW, hW1, hW4⟩ := C.1 p hp
  obtain ⟨hH, hH1, hH4⟩ := C.2.1 p hp
  intro n
  induction n with
  | zero => intro k2 g1 g2; omega
  | succ n ih =>
    intro k2 hn hk2 hlt
    have up0 : yv_f w h tx pt W H p k k2 = 0 → k2 < 192 → wY_overlaps_26 post J (nI p) (nI k) (nI w) (nI h) ty pt pw ph n (nI (t + sg_s (fun k2 => yv_f w h tx pt W H p k k2) k2)) (nI (k2 + 1)) := by
      intro o g
      have e : sg_s (fun k2 => yv_f w h tx pt W H p k k2) (k2 + 1) = sg_s (fun k2 => yv_f w h tx pt W H p k k2) k2 := by
        show _ + yv_f w h tx pt W H p k k2 = _
        rw [o, Nat.add_zero]
      rw [← e]
      exact ih (k2 + 1) (by omega) (by omega) (by omega)
    have up1 : yv_f w h tx pt W H p k k2 = 1 → k2 < 192 → wY_overlaps_26 post J (nI p) (nI k) (nI w) (nI h) ty pt pw ph n (nI (t + sg_s (fun k2 => yv_f w h tx pt W H p k k2) k2 + 1)) (nI (k2 + 1)) := by
      intro o g
      have e : t + sg_s (fun k2 => yv_f w h tx pt W H p k k2) (k2 + 1) = t + sg_s (fun k2 => yv_f w h tx pt W H p k k2) k2 + 1 := by
        show t + (_ + yv_f w h tx pt W H p k k2) = _
        rw [o, Nat.add_assoc]
      rw [← e]
      exact ih (k2 + 1) (by omega) (by omega) (by omega)
    simp (disch := omega) only [wY_overlaps_26, li_192, nI_1, forall_eq]
    refine ⟨fun g => ?_, fun g => ⟨ry_16, ry_16, ry_16, ry_16, ?_⟩⟩
    · have : k2 = 192 := by omega
      subst this
      exact K
    · have g2 : k2 < 192 := by omega
      simp (disch := omega) only [ry_rem]
      simp (disch := omega) only [ry_div, nI_clamp, vp_in_nI, true_and, hW, hH, yv_1, yv_2]
      refine ⟨fun c => yv_96 (up0 (sg_bf (fun z => by omega)) g2), fun c1 => ⟨fun c => yv_96 (up0 (sg_bf (fun z => by omega)) g2), fun c2 => ⟨fun c => yv_96 (up0 (sg_bf (fun z => by omega)) g2), fun c3 => ?_⟩⟩⟩
      refine yv_97 C hR hw hh hw4 hh4 hp hk g2 (fun o => up1 (sg_bt ⟨hlt, by omega, by omega, by omega, o⟩) g2) (fun o => up0 (sg_bf (fun z => o z.2.2.2.2)) g2)
theorem yv_14 (C : cx_P pw ph pt W H) (hR : ry_T tx ty) (hw : w ≤ 12) (hh : h ≤ 12) (hw4 : 4 ≤ w) (hh4 : 4 ≤ h) (hp : p < 3)
    (K : post (nI (sg_s (fun k => sg_s (fun k2 => yv_f w h tx pt W H p k k2) 192) 192))) :
    ∀ n k, 192 < n + k → k ≤ 192 → wY_overlaps_14 post (nI p) (nI w) (nI h) ty pt pw ph n (nI (sg_s (fun k => sg_s (fun k2 => yv_f w h tx pt W H p k k2) 192) k)) (nI k) := by
  intro n
  induction n with
  | zero => intro k g1 g2; omega
  | succ n ih =>
    intro k hn hk
    simp (disch := omega) only [wY_overlaps_14, li_192, nI_1, forall_eq]
    refine ⟨fun g => ?_, fun g => ?_⟩
    · have : k = 192 := by omega
      subst this
      exact K
    · have z : sg_s (fun k2 => yv_f w h tx pt W H p k k2) (k + 1) = 0 := sg_zero (fun k2 hk2 => sg_bf (fun z => by omega))
      have := yv_26 (post := post) (t := sg_s (fun k => sg_s (fun k2 => yv_f w h tx pt W H p k k2) 192) k) C hR hw hh hw4 hh4 hp (show k < 192 by omega) (ih (k + 1) (by omega) (by omega)) 192 (k + 1) (by omega) (by omega) (by omega)
      rw [z, Nat.add_zero] at this
      exact ⟨192, this⟩
end
end
section
/-! editing: the tests once more -/
def iq_S (q : Int32) : Prop := ∃ a, 1 ≤ a ∧ a ≤ 4 ∧ q = nI a
def iq_B (n : Nat) (q : Int32) : Prop := ∃ a, a < n ∧ q = nI a
theorem iq_let {q : Int32} {A B : Prop} (h1 : iq_P q → A) (h0 : ¬ iq_P q → B) : (q < 0 → B) ∧ (¬ q < 0 → ((q ≤ 2 → A) ∧ (¬ q ≤ 2 → B))) := by
  refine ⟨fun c => h0 ?_, fun c1 => ⟨fun c2 => h1 ?_, fun c => h0 ?_⟩⟩
  · rintro ⟨a, ha, rfl⟩
    exact nI_pos (by omega) c
  · obtain ⟨a, ha, rfl⟩ := nI_of c1
    have := (nI_leI (b := 2) ha (by omega)).mp c2
    exact ⟨a, by omega, rfl⟩
  · rintro ⟨a, ha, rfl⟩
    exact c (nI_le (b := 2) (by omega) (by omega))
theorem iq_sh {q r : Int32} {A B : Prop} (h1 : iq_S q → iq_S r → A) (h0 : ¬ (iq_S q ∧ iq_S r) → B) :
    (q < 1 → B) ∧ (¬ q < 1 → ((4 < q → B) ∧ (¬ 4 < q → ((r < 1 → B) ∧ (¬ r < 1 → ((r ≤ 4 → A) ∧ (¬ r ≤ 4 → B))))))) := by
  have key : ∀ s : Int32, ¬ s < 1 → ∃ a, 1 ≤ a ∧ a < 2 ^ 31 ∧ s = nI a := by
    intro s hs
    have : ¬ s < 0 := fun z => hs (Int32.lt_of_lt_of_le z (by decide))
    obtain ⟨a, ha, rfl⟩ := nI_of this
    refine ⟨a, ?_, ha, rfl⟩
    apply Classical.byContradiction
    intro z
    exact hs (nI_lt (b := 1) (by omega) (by omega))
  have k1 : ∀ s : Int32, iq_S s → ¬ s < 1 := by
    rintro s ⟨a, h1, h2, rfl⟩
    exact nI_nlt (b := 1) h1 (by omega)
  have k4 : ∀ s : Int32, iq_S s → ¬ 4 < s := by
    rintro s ⟨a, h1, h2, rfl⟩
    exact nI_nlt (a := 4) h2 (by omega)
  refine ⟨fun c => h0 (fun z => k1 q z.1 c), fun c1 => ⟨fun c => h0 (fun z => k4 q z.1 c), fun c2 => ⟨fun c => h0 (fun z => k1 r z.2 c), fun c3 => ⟨fun c4 => ?_, fun c => h0 (fun z => ?_)⟩⟩⟩⟩
  · obtain ⟨a, ha1, ha, rfl⟩ := key q c1
    obtain ⟨b, hb1, hb, rfl⟩ := key r c3
    have h4 : ¬ 4 < a := fun z => c2 (nI_lt (a := 4) z ha)
    have h5 := (nI_leI (b := 4) hb (by omega)).mp c4
    exact h1 ⟨a, ha1, by omega, rfl⟩ ⟨b, hb1, by omega, rfl⟩
  · obtain ⟨-, b, h2, h3, rfl⟩ := z
    exact c (nI_le (b := 4) h3 (by omega))
/-! a double loop that stores -/
def dl_i {α : Type} (F : Nat → Nat → α → α) (i : Nat) : Nat → α → α
  | 0, a => a
  | j + 1, a => F i j (dl_i F i j a)
def dl_o {α : Type} (F : Nat → Nat → α → α) (w : Nat) : Nat → α → α
  | 0, a => a
  | i + 1, a => dl_i F i w (dl_o F w i a)
theorem dl_2 {α β : Type} {F : Nat → Nat → α → α} {G : Nat → Nat → β → β} {P : α → β → Prop} {w h : Nat} (hP : ∀ i j a b, i < h → j < w → P a b → P (F i j a) (G i j b)) {a : α} {b : β} (h0 : P a b) :
    ∀ i, i ≤ h → P (dl_o F w i a) (dl_o G w i b) := by
  have inner : ∀ i, i < h → ∀ j, j ≤ w → ∀ a b, P a b → P (dl_i F i j a) (dl_i G i j b) := by
    intro i hi j
    induction j with
    | zero => intro _ a b h; exact h
    | succ j ih => intro hj a b h; exact hP i j _ _ hi (by omega) (ih (by omega) a b h)
  intro i
  induction i with
  | zero => intro _; exact h0
  | succ i ih => intro hi; exact inner i (by omega) w (Nat.le_refl _) _ _ (ih (by omega))
theorem dl_1 {α : Type} {F : Nat → Nat → α → α} {P : α → Prop} {w h : Nat} (hP : ∀ i j a, i < h → j < w → P a → P (F i j a)) {a : α} (h0 : P a) : P (dl_o F w h a) :=
  dl_2 (F := F) (G := F) (P := fun a _ => P a) (b := a) (fun i j a _ hi hj h => hP i j a hi hj h) h0 h (Nat.le_refl _)
def cp_f (tx : Nat → Int32) (p a b : Nat) (i j : Nat) (pt : Nat → Int32) : Nat → Int32 := upd pt (16 * p + 4 * i + j) (tx (12 * (b + i) + (a + j)))
def st_x (pt : Nat → Int32) (p a b : Nat) (i j : Nat) (tx : Nat → Int32) : Nat → Int32 := upd tx (12 * (b + i) + (a + j)) (pt (16 * p + 4 * i + j))
def st_y (pt : Nat → Int32) (p a b : Nat) (i j : Nat) (ty : Nat → Int32) : Nat → Int32 := upd ty (16 * (b + i) + (a + j)) (pt (16 * p + 4 * i + j))
theorem cx_updV {N : Nat} {f : Nat → Int32} {k : Nat} {v : Int32} (h : ∀ j, j < N → ∃ c, c < 3 ∧ f j = nI c) (hv : ∃ c, c < 3 ∧ v = nI c) : ∀ j, j < N → ∃ c, c < 3 ∧ upd f k v j = nI c := by
  intro j hj
  by_cases z : j = k
  · subst z; rw [pk_us]; exact hv
  · rw [pk_un z]; exact h j hj
theorem ry_upd {tx ty : Nat → Int32} {x y : Nat} {v : Int32} (h : ry_T tx ty) (hx : x < 12) (hy : y < 12) : ry_T (upd tx (12 * y + x) v) (upd ty (16 * y + x) v) := by
  intro x' y' hx' hy'
  by_cases z : x' = x ∧ y' = y
  · obtain ⟨z1, z2⟩ := z
    subst z1 z2
    rw [pk_us, pk_us]
  · rw [pk_un (by omega), pk_un (by omega)]
    exact h x' y' hx' hy'
section
variable {fw fh kc sr : Int32} {tx pw ph pt br fb nq re rn fl fd pg : Nat → Int32} {ty : Nat → Int32} {W H : Nat → Nat} {w h p : Nat}
/-! copy -/
theorem xk_37 {post : Int32 → SX → Prop} (C : cx_P pw ph pt W H) (hT : cx_T tx) (hp : p < 3) {a b i : Nat} {qt : Nat → Int32} (ha : a + W p ≤ 12) (hb : b + H p ≤ 12) (hi : i < H p)
    {J : Int32 → (Nat → Int32) → (Nat → Int32) → (Nat → Int32) → (Nat → Int32) → (Nat → Int32) → (Nat → Int32) → (Nat → Int32) → (Nat → Int32) → (Nat → Int32) → (Nat → Int32) → (Nat → Int32) → (Nat → Int32) → Prop}
    (K : J (nI (i + 1)) tx pw ph (dl_i (cp_f tx p a b) i (W p) qt) br fb nq re rn fl fd pg) :
    ∀ n j, W p < n + j → j ≤ W p → wX_copy_37 post J (nI p) (nI a) (nI b) (nI i) fw fh kc sr n (nI j) tx pw ph (dl_i (cp_f tx p a b) i j qt) br fb nq re rn fl fd pg := by
  obtain ⟨hW, hW1, hW4⟩ := C.1 p hp
  obtain ⟨hH, hH1, hH4⟩ := C.2.1 p hp
  intro n
  induction n with
  | zero => intro j g1 g2; omega
  | succ n ih =>
    intro j hn hj
    simp (disch := omega) only [wX_copy_37, nI_clamp, vp_in_nI, true_and, hW, nI_leI, ix_tx, ix_p, nI_1, forall_eq]
    refine ⟨fun g => ?_, fun g => ?_⟩
    · have : j = W p := by omega
      subst this
      exact K
    · obtain ⟨c, hc, e⟩ := hT (12 * (b + i) + (a + j)) (by omega)
      rw [e, ib_n (by omega), ← e]
      exact ⟨vp_in_nI (by omega) (by omega), vp_in_nI (by omega) (by omega), ih (j + 1) (by omega) (by omega)⟩
theorem xk_23 {post : Int32 → SX → Prop} (C : cx_P pw ph pt W H) (hT : cx_T tx) (hp : p < 3) {a b : Nat} {qt : Nat → Int32} (ha : a + W p ≤ 12) (hb : b + H p ≤ 12)
    (K : post 1 (fw, fh, kc, 0, tx, pw, ph, dl_o (cp_f tx p a b) (W p) (H p) qt, br, fb, nq, re, rn, fl, fd, pg)) :
    ∀ n i, H p < n + i → i ≤ H p → wX_copy_23 post (nI p) (nI a) (nI b) fw fh kc sr n (nI i) tx pw ph (dl_o (cp_f tx p a b) (W p) i qt) br fb nq re rn fl fd pg := by
  obtain ⟨hW, hW1, hW4⟩ := C.1 p hp
  obtain ⟨hH, hH1, hH4⟩ := C.2.1 p hp
  intro n
  induction n with
  | zero => intro i g1 g2; omega
  | succ n ih =>
    intro i hn hi
    simp (disch := omega) only [wX_copy_23, nI_clamp, vp_in_nI, true_and, hH, nI_leI]
    refine ⟨fun g => ?_, fun g => ?_⟩
    · have : i = H p := by omega
      subst this
      exact K
    · exact ⟨5, xk_37 C hT hp ha hb (by omega) (ih (i + 1) (by omega) (by omega)) 5 0 (by omega) (by omega)⟩
theorem yk_29 {post : Int32 → SY → Prop} (C : cx_P pw ph pt W H) (hR : ry_T tx ty) (hp : p < 3) {a b i : Nat} {qt : Nat → Int32} (ha : a + W p ≤ 12) (hb : b + H p ≤ 12) (hi : i < H p)
    {J : Int32 → (Nat → Int32) → (Nat → Int32) → (Nat → Int32) → (Nat → Int32) → Prop}
    (K : J (nI (i + 1)) ty (dl_i (cp_f tx p a b) i (W p) qt) pw ph) :
    ∀ n j, W p < n + j → j ≤ W p → wY_copy_29 post J (nI p) (nI a) (nI b) (nI i) fw fh n (nI j) ty (dl_i (cp_f tx p a b) i j qt) pw ph := by
  obtain ⟨hW, hW1, hW4⟩ := C.1 p hp
  obtain ⟨hH, hH1, hH4⟩ := C.2.1 p hp
  intro n
  induction n with
  | zero => intro j g1 g2; omega
  | succ n ih =>
    intro j hn hj
    simp (disch := omega) only [wY_copy_29, nI_clamp, hW, nI_leI, ix_ty, ix_p, nI_1, forall_eq]
    refine ⟨vp_in_nI hp (by omega), fun g => ?_, fun g => ?_⟩
    · have : j = W p := by omega
      subst this
      exact K
    · rw [hR (a + j) (b + i) (by omega) (by omega)]
      exact ⟨vp_in_nI (by omega) (by omega), vp_in_nI (by omega) (by omega), ih (j + 1) (by omega) (by omega)⟩
theorem yk_15 {post : Int32 → SY → Prop} (C : cx_P pw ph pt W H) (hR : ry_T tx ty) (hp : p < 3) {a b : Nat} {qt : Nat → Int32} (ha : a + W p ≤ 12) (hb : b + H p ≤ 12)
    (K : post 1 (fw, fh, ty, dl_o (cp_f tx p a b) (W p) (H p) qt, pw, ph)) :
    ∀ n i, H p < n + i → i ≤ H p → wY_copy_15 post (nI p) (nI a) (nI b) fw fh n (nI i) ty (dl_o (cp_f tx p a b) (W p) i qt) pw ph := by
  obtain ⟨hW, hW1, hW4⟩ := C.1 p hp
  obtain ⟨hH, hH1, hH4⟩ := C.2.1 p hp
  intro n
  induction n with
  | zero => intro i g1 g2; omega
  | succ n ih =>
    intro i hn hi
    simp (disch := omega) only [wY_copy_15, nI_clamp, vp_in_nI, true_and, hH, nI_leI]
    refine ⟨fun g => ?_, fun g => ?_⟩
    · have : i = H p := by omega
      subst this
      exact K
    · exact ⟨5, yk_29 C hR hp ha hb (by omega) (ih (i + 1) (by omega) (by omega)) 5 0 (by omega) (by omega)⟩
/-! stamp -/
theorem xt_37 {post : Int32 → SX → Prop} (C : cx_P pw ph pt W H) (hp : p < 3) {a b i : Nat} {qx : Nat → Int32} (ha : a + W p ≤ 12) (hb : b + H p ≤ 12) (hi : i < H p)
    {J : Int32 → (Nat → Int32) → (Nat → Int32) → (Nat → Int32) → (Nat → Int32) → (Nat → Int32) → (Nat → Int32) → (Nat → Int32) → (Nat → Int32) → (Nat → Int32) → (Nat → Int32) → (Nat → Int32) → (Nat → Int32) → Prop}
    (K : J (nI (i + 1)) (dl_i (st_x pt p a b) i (W p) qx) pw ph pt br fb nq re rn fl fd pg) :
    ∀ n j, W p < n + j → j ≤ W p → wX_stamp_37 post J (nI p) (nI a) (nI b) (nI i) fw fh kc sr n (nI j) (dl_i (st_x pt p a b) i j qx) pw ph pt br fb nq re rn fl fd pg := by
  obtain ⟨hW, hW1, hW4⟩ := C.1 p hp
  obtain ⟨hH, hH1, hH4⟩ := C.2.1 p hp
  intro n
  induction n with
  | zero => intro j g1 g2; omega
  | succ n ih =>
    intro j hn hj
    simp (disch := omega) only [wX_stamp_37, nI_clamp, hW, nI_leI, ix_tx, ix_p, nI_1, forall_eq]
    refine ⟨vp_in_nI hp (by omega), fun g => ?_, fun g => ?_⟩
    · have : j = W p := by omega
      subst this
      exact K
    · obtain ⟨c, hc, e⟩ := C.2.2 (16 * p + 4 * i + j) (by omega)
      rw [e, ib_n (by omega), ← e]
      exact ⟨vp_in_nI (by omega) (by omega), vp_in_nI (by omega) (by omega), ih (j + 1) (by omega) (by omega)⟩
theorem xt_23 {post : Int32 → SX → Prop} (C : cx_P pw ph pt W H) (hp : p < 3) {a b : Nat} {qx : Nat → Int32} (ha : a + W p ≤ 12) (hb : b + H p ≤ 12)
    (K : post 1 (fw, fh, kc, 0, dl_o (st_x pt p a b) (W p) (H p) qx, pw, ph, pt, br, fb, nq, re, rn, fl, fd, pg)) :
    ∀ n i, H p < n + i → i ≤ H p → wX_stamp_23 post (nI p) (nI a) (nI b) fw fh kc sr n (nI i) (dl_o (st_x pt p a b) (W p) i qx) pw ph pt br fb nq re rn fl fd pg := by
  obtain ⟨hW, hW1, hW4⟩ := C.1 p hp
  obtain ⟨hH, hH1, hH4⟩ := C.2.1 p hp
  intro n
  induction n with
  | zero => intro i g1 g2; omega
  | succ n ih =>
    intro i hn hi
    simp (disch := omega) only [wX_stamp_23, nI_clamp, vp_in_nI, true_and, hH, nI_leI]
    refine ⟨fun g => ?_, fun g => ?_⟩
    · have : i = H p := by omega
      subst this
      exact K
    · exact ⟨5, xt_37 C hp ha hb (by omega) (ih (i + 1) (by omega) (by omega)) 5 0 (by omega) (by omega)⟩
theorem yt_29 {post : Int32 → SY → Prop} (C : cx_P pw ph pt W H) (hp : p < 3) {a b i : Nat} {qy : Nat → Int32} (ha : a + W p ≤ 12) (hb : b + H p ≤ 12) (hi : i < H p)
    {J : Int32 → (Nat → Int32) → (Nat → Int32) → (Nat → Int32) → (Nat → Int32) → Prop}
    (K : J (nI (i + 1)) (dl_i (st_y pt p a b) i (W p) qy) pt pw ph) :
    ∀ n j, W p < n + j → j ≤ W p → wY_stamp_29 post J (nI p) (nI a) (nI b) (nI i) fw fh n (nI j) (dl_i (st_y pt p a b) i j qy) pt pw ph := by
  obtain ⟨hW, hW1, hW4⟩ := C.1 p hp
  obtain ⟨hH, hH1, hH4⟩ := C.2.1 p hp
  intro n
  induction n with
  | zero => intro j g1 g2; omega
  | succ n ih =>
    intro j hn hj
    simp (disch := omega) only [wY_stamp_29, nI_clamp, hW, nI_leI, ix_ty, ix_p, nI_1, forall_eq]
    refine ⟨vp_in_nI hp (by omega), fun g => ?_, fun g => ?_⟩
    · have : j = W p := by omega
      subst this
      exact K
    · exact ⟨vp_in_nI (by omega) (by omega), vp_in_nI (by omega) (by omega), ih (j + 1) (by omega) (by omega)⟩
theorem yt_15 {post : Int32 → SY → Prop} (C : cx_P pw ph pt W H) (hp : p < 3) {a b : Nat} {qy : Nat → Int32} (ha : a + W p ≤ 12) (hb : b + H p ≤ 12)
    (K : post 1 (fw, fh, dl_o (st_y pt p a b) (W p) (H p) qy, pt, pw, ph)) :
    ∀ n i, H p < n + i → i ≤ H p → wY_stamp_15 post (nI p) (nI a) (nI b) fw fh n (nI i) (dl_o (st_y pt p a b) (W p) i qy) pt pw ph := by
  obtain ⟨hW, hW1, hW4⟩ := C.1 p hp
  obtain ⟨hH, hH1, hH4⟩ := C.2.1 p hp
  intro n
  induction n with
  | zero => intro i g1 g2; omega
  | succ n ih =>
    intro i hn hi
    simp (disch := omega) only [wY_stamp_15, nI_clamp, vp_in_nI, true_and, hH, nI_leI]
    refine ⟨fun g => ?_, fun g => ?_⟩
    · have : i = H p := by omega
      subst this
      exact K
    · exact ⟨5, yt_29 C hp ha hb (by omega) (ih (i + 1) (by omega) (by omega)) 5 0 (by omega) (by omega)⟩
/-! shape -/
def sh_z (p : Nat) : Nat → (Nat → Int32) → (Nat → Int32)
  | 0, f => f
  | k + 1, f => upd (sh_z p k f) (16 * p + k) 0
theorem sh_ok {f : Nat → Int32} (h : ∀ j, j < 48 → ∃ c, c < 3 ∧ f j = nI c) : ∀ k, ∀ j, j < 48 → ∃ c, c < 3 ∧ sh_z p k f j = nI c := by
  intro k
  induction k with
  | zero => exact h
  | succ k ih => exact cx_updV ih ⟨0, by omega, rfl⟩
theorem xh_49 {post : Int32 → SX → Prop} (hp : p < 3) {qt : Nat → Int32} (K : post 1 (fw, fh, kc, 0, tx, pw, ph, sh_z p 16 qt, br, fb, nq, re, rn, fl, fd, pg)) :
    ∀ n k, 16 < n + k → k ≤ 16 → wX_shape_49 post (nI p) fw fh kc sr n (nI k) tx pw ph (sh_z p k qt) br fb nq re rn fl fd pg := by
  intro n
  induction n with
  | zero => intro k g1 g2; omega
  | succ n ih =>
    intro k hn hk
    simp (disch := omega) only [wX_shape_49, li_16, ix_16, nI_clamp, ib_0, nI_1, forall_eq]
    refine ⟨fun g => ?_, fun g => ?_⟩
    · have : k = 16 := by omega
      subst this
      exact K
    · exact ⟨vp_in_nI (by omega) (by omega), ih (k + 1) (by omega) (by omega)⟩
theorem yh_47 {post : Int32 → SY → Prop} (hp : p < 3) {qt : Nat → Int32} (K : post 1 (fw, fh, ty, sh_z p 16 qt, pw, ph)) :
    ∀ n k, 16 < n + k → k ≤ 16 → wY_shape_47 post (nI p) fw fh n (nI k) ty (sh_z p k qt) pw ph := by
  intro n
  induction n with
  | zero => intro k g1 g2; omega
  | succ n ih =>
    intro k hn hk
    simp (disch := omega) only [wY_shape_47, li_16, ix_16, nI_clamp, nI_1, forall_eq]
    refine ⟨fun g => ?_, fun g => ?_⟩
    · have : k = 16 := by omega
      subst this
      exact K
    · exact ⟨vp_in_nI (by omega) (by omega), ih (k + 1) (by omega) (by omega)⟩
/-! the constructors -/
def in_1 : Nat → Nat → Int32
  | 0 => fun _ => 0
  | k + 1 => upd (in_1 k) k 1
def in_16 : Nat → Nat → Int32
  | 0 => fun _ => 0
  | k + 1 => upd (in_16 k) (16 * k) 1
theorem in_ok : ∀ k, ∀ j, j < 48 → ∃ c, c < 3 ∧ in_16 k j = nI c := by
  intro k
  induction k with
  | zero => exact fun j _ => ⟨0, by omega, rfl⟩
  | succ k ih => exact cx_updV ih ⟨1, by omega, rfl⟩
theorem xz_153 {post : SX → Prop} (K : post (fw, fh, kc, sr, tx, in_1 3, in_1 3, in_16 3, br, fb, nq, re, rn, fl, fd, pg)) :
    ∀ n k, 3 < n + k → k ≤ 3 → wX_init_153 post fw fh kc sr n (nI k) tx (in_1 k) (in_1 k) (in_16 k) br fb nq re rn fl fd pg := by
  intro n
  induction n with
  | zero => intro k g1 g2; omega
  | succ n ih =>
    intro k hn hk
    simp (disch := omega) only [wX_init_153, li_3, ix_160, nI_clamp, ib_1, nI_1, forall_eq]
    refine ⟨fun g => ?_, fun g => ?_⟩
    · have : k = 3 := by omega
      subst this
      exact K
    · exact ⟨vp_in_nI (by omega) (by omega), vp_in_nI (by omega) (by omega), vp_in_nI (by omega) (by omega), ih (k + 1) (by omega) (by omega)⟩
theorem yz_87 {post : SY → Prop} (K : post (fw, fh, ty, in_16 3, in_1 3, in_1 3)) :
    ∀ n k, 3 < n + k → k ≤ 3 → wY_init_87 post fw fh n (nI k) ty (in_16 k) (in_1 k) (in_1 k) := by
  intro n
  induction n with
  | zero => intro k g1 g2; omega
  | succ n ih =>
    intro k hn hk
    simp (disch := omega) only [wY_init_87, li_3, ix_160, nI_clamp, nI_1, forall_eq]
    refine ⟨fun g => ?_, fun g => ?_⟩
    · have : k = 3 := by omega
      subst this
      exact K
    · exact ⟨vp_in_nI (by omega) (by omega), vp_in_nI (by omega) (by omega), vp_in_nI (by omega) (by omega), ih (k + 1) (by omega) (by omega)⟩
end
theorem in_cl (x : Int32) : ∃ w, 4 ≤ w ∧ w ≤ 12 ∧ ∀ A : Int32 → Prop, A (nI w) → ((4 ≤ x → ((x ≤ 12 → A x) ∧ (¬ x ≤ 12 → A 12))) ∧ (¬ 4 ≤ x → A 4)) := by
  by_cases h : (4 : Int32) ≤ x
  · by_cases h2 : x ≤ 12
    · have h0 : ¬ x < 0 := fun z => absurd (Int32.lt_of_le_of_lt h z) (by decide)
      obtain ⟨a, ha, rfl⟩ := nI_of h0
      have g1 := (nI_leI (a := 4) (by omega) ha).mp h
      have g2 := (nI_leI (b := 12) ha (by omega)).mp h2
      exact ⟨a, g1, g2, fun A hA => br_t h (br_t h2 hA)⟩
    · exact ⟨12, by omega, by omega, fun A hA => br_t h (br_f h2 hA)⟩
  · exact ⟨4, by omega, by omega, fun A hA => br_f h hA⟩
end
section
/-! the relation -/
def rl_K (w h : Nat) (W H : Nat → Nat) (sr : Int32) (tx pw ph pt fd ty : Nat → Int32) : Prop :=
  (4 ≤ w ∧ w ≤ 12 ∧ 4 ≤ h ∧ h ≤ 12) ∧ cx_P pw ph pt W H ∧ cx_T tx ∧ ry_T tx ty ∧ (¬ sr = 0 → oc_F w h tx pt W H fd)
/-- the two objects: the same sizes, patterns and letters; and where the search is done, found holds the occurrences -/
def i_Rel (_ : Nat) (u : SX) (v : SY) : Prop := match u, v with
  | (fw, fh, kc, sr, tx, pw, ph, pt, br, fb, nq, re, rn, fl, fd, pg), (cw, ch, ty, qt, qw, qh) => (cw = fw ∧ ch = fh ∧ qt = pt ∧ qw = pw ∧ qh = ph) ∧ ∃ w h W H, fw = nI w ∧ fh = nI h ∧ rl_K w h W H sr tx pw ph pt fd ty
theorem rl_el {P : SX → SY → Prop} {k : Nat} {u : SX} {v : SY}
    (h : ∀ (w h : Nat) (W H : Nat → Nat) (kc sr : Int32) (tx pw ph pt br fb nq re rn fl fd pg ty : Nat → Int32), rl_K w h W H sr tx pw ph pt fd ty → P (nI w, nI h, kc, sr, tx, pw, ph, pt, br, fb, nq, re, rn, fl, fd, pg) (nI w, nI h, ty, pt, pw, ph)) (I : i_Rel k u v) : P u v := by
  obtain ⟨fw, fh, kc, sr, tx, pw, ph, pt, br, fb, nq, re, rn, fl, fd, pg⟩ := u
  obtain ⟨cw, ch, ty, qt, qw, qh⟩ := v
  obtain ⟨⟨e1, e2, e3, e4, e5⟩, w, hh, W, H, e6, e7, R⟩ := I
  subst e1 e2 e3 e4 e5 e6 e7
  exact h w hh W H kc sr tx _ _ _ br fb nq re rn fl fd pg ty R
section
variable {fw fh kc sr : Int32} {tx pw ph pt br fb nq re rn fl fd pg : Nat → Int32} {ty : Nat → Int32} {W H : Nat → Nat} {w h p k : Nat}
theorem rl_mk (R : rl_K w h W H sr tx pw ph pt fd ty) : i_Rel k (nI w, nI h, kc, sr, tx, pw, ph, pt, br, fb, nq, re, rn, fl, fd, pg) (nI w, nI h, ty, pt, pw, ph) := ⟨⟨rfl, rfl, rfl, rfl, rfl⟩, w, h, W, H, rfl, rfl, R⟩
theorem rl_s0 {sr' : Int32} {fd' : Nat → Int32} (R : rl_K w h W H sr tx pw ph pt fd ty) (hF : oc_F w h tx pt W H fd') : rl_K w h W H sr' tx pw ph pt fd' ty := ⟨R.1, R.2.1, R.2.2.1, R.2.2.2.1, fun _ => hF⟩
end
section
variable {fw fh kc sr : Int32} {tx pw ph pt br fb nq re rn fl fd pg : Nat → Int32} {ty : Nat → Int32} {W H : Nat → Nat} {w h p : Nat} {v1 v2 v3 v4 : Int32} {post : Int32 → SX → Prop} {pos2 : Int32 → SY → Prop} {pos1 : Int32 → Prop}
/-! write -/
theorem mx_write {a b c : Nat} (hw : w ≤ 12) (hh : h ≤ 12) (ha : a < w) (hb : b < h) (hc : c < 3) (K : post 1 (nI w, nI h, kc, 0, upd tx (12 * b + a) (nI c), pw, ph, pt, br, fb, nq, re, rn, fl, fd, pg)) : wpX_write post (nI w, nI h, kc, sr, tx, pw, ph, pt, br, fb, nq, re, rn, fl, fd, pg) (nI a) (nI b) (nI c) := by
  unfold wpX_write
  refine xq_in hw hh (fun _ => br_f (by decide) ?_) (fun z => absurd ⟨a, b, ha, hb, rfl, rfl⟩ z)
  refine iq_let (fun _ => ?_) (fun z => absurd ⟨c, hc, rfl⟩ z)
  simp (disch := omega) only [ix_12, nI_clamp, vp_in_nI, true_and, forall_eq, ib_2]
  exact K
theorem mx_write_n (hw : w ≤ 12) (hh : h ≤ 12) (h0 : ¬ (iq_T w h v1 v2 ∧ iq_P v3)) (K : post 0 (nI w, nI h, kc, sr, tx, pw, ph, pt, br, fb, nq, re, rn, fl, fd, pg)) : wpX_write post (nI w, nI h, kc, sr, tx, pw, ph, pt, br, fb, nq, re, rn, fl, fd, pg) v1 v2 v3 := by
  unfold wpX_write
  exact xq_in hw hh (fun z => br_f (by decide) (iq_let (fun z2 => absurd ⟨z, z2⟩ h0) (fun _ => K))) (fun _ => br_t rfl K)
theorem my_write {a b c : Nat} (hw : w ≤ 12) (hh : h ≤ 12) (ha : a < w) (hb : b < h) (hc : c < 3) (K : pos2 1 (nI w, nI h, upd ty (16 * b + a) (nI c), pt, pw, ph)) : wpY_write pos2 (nI w, nI h, ty, pt, pw, ph) (nI a) (nI b) (nI c) := by
  unfold wpY_write
  refine yq_in hw hh (fun _ => br_f (by decide) ?_) (fun z => absurd ⟨a, b, ha, hb, rfl, rfl⟩ z)
  refine yq_let (fun _ => br_f (by decide) ?_) (fun z => absurd ⟨c, hc, rfl⟩ z)
  simp (disch := omega) only [ix_16, nI_clamp, vp_in_nI, true_and, forall_eq]
  exact K
theorem my_write_n (hw : w ≤ 12) (hh : h ≤ 12) (h0 : ¬ (iq_T w h v1 v2 ∧ iq_P v3)) (K : pos2 0 (nI w, nI h, ty, pt, pw, ph)) : wpY_write pos2 (nI w, nI h, ty, pt, pw, ph) v1 v2 v3 := by
  unfold wpY_write
  exact yq_in hw hh (fun z => br_f (by decide) (yq_let (fun z2 => absurd ⟨z, z2⟩ h0) (fun _ => br_t rfl K))) (fun _ => br_t rfl K)
/-! shape -/
theorem mx_shape {a b : Nat} (hp : p < 3) (ha : 1 ≤ a ∧ a ≤ 4) (hb : 1 ≤ b ∧ b ≤ 4) (K : post 1 (fw, fh, kc, 0, tx, upd pw p (nI a), upd ph p (nI b), sh_z p 16 pt, br, fb, nq, re, rn, fl, fd, pg)) : wpX_shape post (fw, fh, kc, sr, tx, pw, ph, pt, br, fb, nq, re, rn, fl, fd, pg) (nI p) (nI a) (nI b) := by
  unfold wpX_shape
  refine xq_pat (fun _ => br_f (by decide) ?_) (fun z => absurd ⟨p, hp, rfl⟩ z)
  refine iq_sh (fun _ _ => ?_) (fun z => absurd ⟨⟨a, ha.1, ha.2, rfl⟩, ⟨b, hb.1, hb.2, rfl⟩⟩ z)
  simp (disch := omega) only [nI_clamp, vp_in_nI, true_and, forall_eq, ib_2]
  exact ⟨17, xh_49 hp K 17 0 (by omega) (by omega)⟩
theorem mx_shape_n (h0 : ¬ (iq_P v1 ∧ iq_S v2 ∧ iq_S v3)) (K : post 0 (fw, fh, kc, sr, tx, pw, ph, pt, br, fb, nq, re, rn, fl, fd, pg)) : wpX_shape post (fw, fh, kc, sr, tx, pw, ph, pt, br, fb, nq, re, rn, fl, fd, pg) v1 v2 v3 := by
  unfold wpX_shape
  exact xq_pat (fun z => br_f (by decide) (iq_sh (fun z2 z3 => absurd ⟨z, z2, z3⟩ h0) (fun _ => K))) (fun _ => br_t rfl K)
theorem my_shape {a b : Nat} (hp : p < 3) (ha : 1 ≤ a ∧ a ≤ 4) (hb : 1 ≤ b ∧ b ≤ 4) (K : pos2 1 (fw, fh, ty, sh_z p 16 pt, upd pw p (nI a), upd ph p (nI b))) : wpY_shape pos2 (fw, fh, ty, pt, pw, ph) (nI p) (nI a) (nI b) := by
  unfold wpY_shape
  refine yq_pat (fun _ => br_f (by decide) ?_) (fun z => absurd ⟨p, hp, rfl⟩ z)
  refine iq_sh (fun _ _ => ?_) (fun z => absurd ⟨⟨a, ha.1, ha.2, rfl⟩, ⟨b, hb.1, hb.2, rfl⟩⟩ z)
  simp (disch := omega) only [nI_clamp, vp_in_nI, true_and, forall_eq]
  exact ⟨17, yh_47 hp K 17 0 (by omega) (by omega)⟩
theorem my_shape_n (h0 : ¬ (iq_P v1 ∧ iq_S v2 ∧ iq_S v3)) (K : pos2 0 (fw, fh, ty, pt, pw, ph)) : wpY_shape pos2 (fw, fh, ty, pt, pw, ph) v1 v2 v3 := by
  unfold wpY_shape
  exact yq_pat (fun z => br_f (by decide) (iq_sh (fun z2 z3 => absurd ⟨z, z2, z3⟩ h0) (fun _ => K))) (fun _ => br_t rfl K)
/-! paint -/
theorem mx_paint {a b c : Nat} (C : cx_P pw ph pt W H) (hp : p < 3) (ha : a < W p) (hb : b < H p) (hc : c < 3) (K : post 1 (fw, fh, kc, 0, tx, pw, ph, upd pt (16 * p + 4 * b + a) (nI c), br, fb, nq, re, rn, fl, fd, pg)) : wpX_paint post (fw, fh, kc, sr, tx, pw, ph, pt, br, fb, nq, re, rn, fl, fd, pg) (nI p) (nI a) (nI b) (nI c) := by
  obtain ⟨hW, hW1, hW4⟩ := C.1 p hp
  obtain ⟨hH, hH1, hH4⟩ := C.2.1 p hp
  unfold wpX_paint
  refine xq_pat (fun _ => br_f (by decide) ?_) (fun z => absurd ⟨p, hp, rfl⟩ z)
  refine iq_let (fun _ => br_f (nI_pos (by omega)) ?_) (fun z => absurd ⟨c, hc, rfl⟩ z)
  simp (disch := omega) only [nI_clamp, vp_in_nI, true_and, forall_eq, ib_2, hW, hH, ix_p, nI_leI, nI_ltI]
  exact br_f (by omega) (br_f (nI_pos (by omega)) (br_t hb K))
theorem mx_paint_n (C : cx_P pw ph pt W H) (hp : p < 3) (h0 : ¬ (iq_B (W p) v2 ∧ iq_B (H p) v3 ∧ iq_P v4)) (K : post 0 (fw, fh, kc, sr, tx, pw, ph, pt, br, fb, nq, re, rn, fl, fd, pg)) : wpX_paint post (fw, fh, kc, sr, tx, pw, ph, pt, br, fb, nq, re, rn, fl, fd, pg) (nI p) v2 v3 v4 := by
  obtain ⟨hW, hW1, hW4⟩ := C.1 p hp
  obtain ⟨hH, hH1, hH4⟩ := C.2.1 p hp
  unfold wpX_paint
  refine xq_pat (fun _ => br_f (by decide) ?_) (fun z => absurd ⟨p, hp, rfl⟩ z)
  refine iq_let (fun hl => ?_) (fun _ => K)
  simp (disch := omega) only [nI_clamp, vp_in_nI, true_and, hW, hH]
  refine ⟨fun _ => K, fun c1 => ⟨fun _ => K, fun c2 => ⟨fun _ => K, fun c3 => ⟨fun c4 => ?_, fun _ => K⟩⟩⟩⟩
  obtain ⟨a, ha, rfl⟩ := nI_of c1
  obtain ⟨b, hb, rfl⟩ := nI_of c3
  rw [nI_leI (by omega) ha] at c2
  rw [nI_ltI hb (by omega)] at c4
  exact absurd ⟨⟨a, by omega, rfl⟩, ⟨b, c4, rfl⟩, hl⟩ h0
theorem mx_paint_p (h0 : ¬ iq_P v1) (K : post 0 (fw, fh, kc, sr, tx, pw, ph, pt, br, fb, nq, re, rn, fl, fd, pg)) : wpX_paint post (fw, fh, kc, sr, tx, pw, ph, pt, br, fb, nq, re, rn, fl, fd, pg) v1 v2 v3 v4 := by
  unfold wpX_paint
  exact xq_pat (fun z => absurd z h0) (fun _ => br_t rfl K)
theorem my_paint {a b c : Nat} (C : cx_P pw ph pt W H) (hp : p < 3) (ha : a < W p) (hb : b < H p) (hc : c < 3) (K : pos2 1 (fw, fh, ty, upd pt (16 * p + 4 * b + a) (nI c), pw, ph)) : wpY_paint pos2 (fw, fh, ty, pt, pw, ph) (nI p) (nI a) (nI b) (nI c) := by
  obtain ⟨hW, hW1, hW4⟩ := C.1 p hp
  obtain ⟨hH, hH1, hH4⟩ := C.2.1 p hp
  unfold wpY_paint
  refine yq_pat (fun _ => br_f (by decide) ?_) (fun z => absurd ⟨p, hp, rfl⟩ z)
  refine br_f (nI_pos (by omega)) (br_f (nI_pos (by omega)) ?_)
  simp (disch := omega) only [nI_clamp, vp_in_nI, true_and, forall_eq, hW, hH, ix_p, nI_leI]
  exact br_f (by omega) (br_f (by omega) (yq_let (fun _ => br_f (by decide) K) (fun z => absurd ⟨c, hc, rfl⟩ z)))
theorem my_paint_n (C : cx_P pw ph pt W H) (hp : p < 3) (h0 : ¬ (iq_B (W p) v2 ∧ iq_B (H p) v3 ∧ iq_P v4)) (K : pos2 0 (fw, fh, ty, pt, pw, ph)) : wpY_paint pos2 (fw, fh, ty, pt, pw, ph) (nI p) v2 v3 v4 := by
  obtain ⟨hW, hW1, hW4⟩ := C.1 p hp
  obtain ⟨hH, hH1, hH4⟩ := C.2.1 p hp
  unfold wpY_paint
  refine yq_pat (fun _ => br_f (by decide) ?_) (fun z => absurd ⟨p, hp, rfl⟩ z)
  simp (disch := omega) only [nI_clamp, vp_in_nI, true_and, hW, hH]
  refine ⟨fun _ => K, fun c1 => ⟨fun _ => K, fun c3 => ⟨fun _ => K, fun c2 => ⟨fun _ => K, fun c4 => ?_⟩⟩⟩⟩
  obtain ⟨a, ha, rfl⟩ := nI_of c1
  obtain ⟨b, hb, rfl⟩ := nI_of c3
  rw [nI_leI (by omega) ha] at c2
  rw [nI_leI (by omega) hb] at c4
  exact yq_let (fun hl => absurd ⟨⟨a, by omega, rfl⟩, ⟨b, by omega, rfl⟩, hl⟩ h0) (fun _ => br_t rfl K)
theorem my_paint_p (h0 : ¬ iq_P v1) (K : pos2 0 (fw, fh, ty, pt, pw, ph)) : wpY_paint pos2 (fw, fh, ty, pt, pw, ph) v1 v2 v3 v4 := by
  unfold wpY_paint
  exact yq_pat (fun z => absurd z h0) (fun _ => br_t rfl K)
/-! copy, stamp -/
theorem mx_copy {a b : Nat} (R : rl_K w h W H sr tx pw ph pt fd ty) (hp : p < 3) (ha : a + W p ≤ w) (hb : b + H p ≤ h) (K : post 1 (nI w, nI h, kc, 0, tx, pw, ph, dl_o (cp_f tx p a b) (W p) (H p) pt, br, fb, nq, re, rn, fl, fd, pg)) : wpX_copy post (nI w, nI h, kc, sr, tx, pw, ph, pt, br, fb, nq, re, rn, fl, fd, pg) (nI p) (nI a) (nI b) := by
  obtain ⟨⟨hw4, hw, hh4, hh⟩, C, hT, hR, hs⟩ := R
  unfold wpX_copy
  refine xq_pat (fun _ => br_f (by decide) ?_) (fun z => absurd ⟨p, hp, rfl⟩ z)
  refine xq_fit C hw hh hw4 hh4 hp (fun _ => br_f (by decide) ?_) (fun z => absurd ⟨a, b, ha, hb, rfl, rfl⟩ z)
  exact ⟨5, xk_23 C hT hp (by omega) (by omega) K 5 0 (by have := (C.2.1 p hp).2.2; omega) (by omega)⟩
theorem mx_copy_n (R : rl_K w h W H sr tx pw ph pt fd ty) (h0 : ¬ ∃ p, p < 3 ∧ v1 = nI p ∧ iq_F w h W H p v2 v3) (K : post 0 (nI w, nI h, kc, sr, tx, pw, ph, pt, br, fb, nq, re, rn, fl, fd, pg)) : wpX_copy post (nI w, nI h, kc, sr, tx, pw, ph, pt, br, fb, nq, re, rn, fl, fd, pg) v1 v2 v3 := by
  obtain ⟨⟨hw4, hw, hh4, hh⟩, C, hT, hR, hs⟩ := R
  unfold wpX_copy
  refine xq_pat (fun z => br_f (by decide) ?_) (fun _ => br_t rfl K)
  obtain ⟨p, hp, rfl⟩ := z
  exact xq_fit C hw hh hw4 hh4 hp (fun z => absurd ⟨p, hp, rfl, z⟩ h0) (fun _ => br_t rfl K)
theorem my_copy {a b : Nat} (R : rl_K w h W H sr tx pw ph pt fd ty) (hp : p < 3) (ha : a + W p ≤ w) (hb : b + H p ≤ h) (K : pos2 1 (nI w, nI h, ty, dl_o (cp_f tx p a b) (W p) (H p) pt, pw, ph)) : wpY_copy pos2 (nI w, nI h, ty, pt, pw, ph) (nI p) (nI a) (nI b) := by
  obtain ⟨⟨hw4, hw, hh4, hh⟩, C, hT, hR, hs⟩ := R
  unfold wpY_copy
  refine yq_fit C hw hh hw4 hh4 hp (fun _ => br_f (by decide) ?_) (fun z => absurd ⟨a, b, ha, hb, rfl, rfl⟩ z)
  exact ⟨5, yk_15 C hR hp (by omega) (by omega) K 5 0 (by have := (C.2.1 p hp).2.2; omega) (by omega)⟩
theorem yq_fit_p (h0 : ¬ iq_P v1) (K : pos1 0) : wpY_fits pos1 (fw, fh, ty, pt, pw, ph) v1 v2 v3 := by
  unfold wpY_fits
  exact yq_pat (fun z => absurd z h0) (fun _ => br_t rfl K)
theorem yq_fit_n (R : rl_K w h W H sr tx pw ph pt fd ty) (h0 : ¬ ∃ p, p < 3 ∧ v1 = nI p ∧ iq_F w h W H p v2 v3) (K : pos1 0) : wpY_fits pos1 (nI w, nI h, ty, pt, pw, ph) v1 v2 v3 := by
  obtain ⟨⟨hw4, hw, hh4, hh⟩, C, hT, hR, hs⟩ := R
  by_cases hp : iq_P v1
  · obtain ⟨p, hp, rfl⟩ := hp
    exact yq_fit C hw hh hw4 hh4 hp (fun z => absurd ⟨p, hp, rfl, z⟩ h0) (fun _ => K)
  · exact yq_fit_p hp K
theorem my_copy_n (R : rl_K w h W H sr tx pw ph pt fd ty) (h0 : ¬ ∃ p, p < 3 ∧ v1 = nI p ∧ iq_F w h W H p v2 v3) (K : pos2 0 (nI w, nI h, ty, pt, pw, ph)) : wpY_copy pos2 (nI w, nI h, ty, pt, pw, ph) v1 v2 v3 := by
  unfold wpY_copy
  exact yq_fit_n R h0 (br_t rfl K)
theorem mx_stamp {a b : Nat} (R : rl_K w h W H sr tx pw ph pt fd ty) (hp : p < 3) (ha : a + W p ≤ w) (hb : b + H p ≤ h) (K : post 1 (nI w, nI h, kc, 0, dl_o (st_x pt p a b) (W p) (H p) tx, pw, ph, pt, br, fb, nq, re, rn, fl, fd, pg)) : wpX_stamp post (nI w, nI h, kc, sr, tx, pw, ph, pt, br, fb, nq, re, rn, fl, fd, pg) (nI p) (nI a) (nI b) := by
  obtain ⟨⟨hw4, hw, hh4, hh⟩, C, hT, hR, hs⟩ := R
  unfold wpX_stamp
  refine xq_pat (fun _ => br_f (by decide) ?_) (fun z => absurd ⟨p, hp, rfl⟩ z)
  refine xq_fit C hw hh hw4 hh4 hp (fun _ => br_f (by decide) ?_) (fun z => absurd ⟨a, b, ha, hb, rfl, rfl⟩ z)
  exact ⟨5, xt_23 C hp (by omega) (by omega) K 5 0 (by have := (C.2.1 p hp).2.2; omega) (by omega)⟩
theorem mx_stamp_n (R : rl_K w h W H sr tx pw ph pt fd ty) (h0 : ¬ ∃ p, p < 3 ∧ v1 = nI p ∧ iq_F w h W H p v2 v3) (K : post 0 (nI w, nI h, kc, sr, tx, pw, ph, pt, br, fb, nq, re, rn, fl, fd, pg)) : wpX_stamp post (nI w, nI h, kc, sr, tx, pw, ph, pt, br, fb, nq, re, rn, fl, fd, pg) v1 v2 v3 := by
  obtain ⟨⟨hw4, hw, hh4, hh⟩, C, hT, hR, hs⟩ := R
  unfold wpX_stamp
  refine xq_pat (fun z => br_f (by decide) ?_) (fun _ => br_t rfl K)
  obtain ⟨p, hp, rfl⟩ := z
  exact xq_fit C hw hh hw4 hh4 hp (fun z => absurd ⟨p, hp, rfl, z⟩ h0) (fun _ => br_t rfl K)
theorem my_stamp {a b : Nat} (R : rl_K w h W H sr tx pw ph pt fd ty) (hp : p < 3) (ha : a + W p ≤ w) (hb : b + H p ≤ h) (K : pos2 1 (nI w, nI h, dl_o (st_y pt p a b) (W p) (H p) ty, pt, pw, ph)) : wpY_stamp pos2 (nI w, nI h, ty, pt, pw, ph) (nI p) (nI a) (nI b) := by
  obtain ⟨⟨hw4, hw, hh4, hh⟩, C, hT, hR, hs⟩ := R
  unfold wpY_stamp
  refine yq_fit C hw hh hw4 hh4 hp (fun _ => br_f (by decide) ?_) (fun z => absurd ⟨a, b, ha, hb, rfl, rfl⟩ z)
  exact ⟨5, yt_15 C hp (by omega) (by omega) K 5 0 (by have := (C.2.1 p hp).2.2; omega) (by omega)⟩
theorem my_stamp_n (R : rl_K w h W H sr tx pw ph pt fd ty) (h0 : ¬ ∃ p, p < 3 ∧ v1 = nI p ∧ iq_F w h W H p v2 v3) (K : pos2 0 (nI w, nI h, ty, pt, pw, ph)) : wpY_stamp pos2 (nI w, nI h, ty, pt, pw, ph) v1 v2 v3 := by
  unfold wpY_stamp
  exact yq_fit_n R h0 (br_t rfl K)
/-! letter -/
theorem mx_letter {a b : Nat} (hw : w ≤ 12) (hh : h ≤ 12) (ha : a < w) (hb : b < h) (K : pos1 (tx (12 * b + a))) : wpX_letter pos1 (nI w, nI h, kc, sr, tx, pw, ph, pt, br, fb, nq, re, rn, fl, fd, pg) (nI a) (nI b) := by
  unfold wpX_letter
  refine xq_in hw hh (fun _ => br_f (by decide) ?_) (fun z => absurd ⟨a, b, ha, hb, rfl, rfl⟩ z)
  simp (disch := omega) only [ix_12, nI_clamp, vp_in_nI, true_and]
  exact K
theorem mx_letter_n (hw : w ≤ 12) (hh : h ≤ 12) (h0 : ¬ iq_T w h v1 v2) (K : pos1 (-1)) : wpX_letter pos1 (nI w, nI h, kc, sr, tx, pw, ph, pt, br, fb, nq, re, rn, fl, fd, pg) v1 v2 := by
  unfold wpX_letter
  exact xq_in hw hh (fun z => absurd z h0) (fun _ => br_t rfl K)
theorem my_letter {a b : Nat} (hw : w ≤ 12) (hh : h ≤ 12) (ha : a < w) (hb : b < h) (K : pos1 (ty (16 * b + a))) : wpY_letter pos1 (nI w, nI h, ty, pt, pw, ph) (nI a) (nI b) := by
  unfold wpY_letter
  refine yq_in hw hh (fun _ => br_f (by decide) ?_) (fun z => absurd ⟨a, b, ha, hb, rfl, rfl⟩ z)
  simp (disch := omega) only [ix_16, nI_clamp, vp_in_nI, true_and]
  exact K
theorem my_letter_n (hw : w ≤ 12) (hh : h ≤ 12) (h0 : ¬ iq_T w h v1 v2) (K : pos1 (-1)) : wpY_letter pos1 (nI w, nI h, ty, pt, pw, ph) v1 v2 := by
  unfold wpY_letter
  exact yq_in hw hh (fun z => absurd z h0) (fun _ => br_t rfl K)
/-! occurrences -/
theorem mx_occ (R : rl_K w h W H sr tx pw ph pt fd ty) (hp : p < 3)
    (K : ∀ kc' sr' br' fb' nq' re' rn' fl' fd' pg', oc_F w h tx pt W H fd' → post (nI (sg_s (fun y => sg_s (fun x => sg_b (oc_O w h tx pt W H p x y)) 12) h)) (nI w, nI h, kc', sr', tx, pw, ph, pt, br', fb', nq', re', rn', fl', fd', pg')) :
    wpX_occurrences post (nI w, nI h, kc, sr, tx, pw, ph, pt, br, fb, nq, re, rn, fl, fd, pg) (nI p) := by
  obtain ⟨⟨hw4, hw, hh4, hh⟩, C, hT, hR, hs⟩ := R
  unfold wpX_occurrences
  refine xq_pat (fun _ => br_f (by decide) ?_) (fun z => absurd ⟨p, hp, rfl⟩ z)
  refine xr_search C hT hw hh hs ?_
  intro kc' sr' br' fb' nq' re' rn' fl' fd' pg' hF
  exact ⟨13, xo_18 hh hp hF (K _ _ _ _ _ _ _ _ _ _ hF) 13 0 (by omega) (by omega)⟩
theorem mx_occ_n (h0 : ¬ iq_P v1) (K : post (-1) (fw, fh, kc, sr, tx, pw, ph, pt, br, fb, nq, re, rn, fl, fd, pg)) : wpX_occurrences post (fw, fh, kc, sr, tx, pw, ph, pt, br, fb, nq, re, rn, fl, fd, pg) v1 := by
  unfold wpX_occurrences
  exact xq_pat (fun z => absurd z h0) (fun _ => br_t rfl K)
theorem my_occ (R : rl_K w h W H sr tx pw ph pt fd ty) (hp : p < 3) (K : pos1 (nI (sg_s (fun k => sg_b (oc_O w h tx pt W H p (k % 16) (k / 16))) 192))) : wpY_occurrences pos1 (nI w, nI h, ty, pt, pw, ph) (nI p) := by
  obtain ⟨⟨hw4, hw, hh4, hh⟩, C, hT, hR, hs⟩ := R
  unfold wpY_occurrences
  refine yq_pat (fun _ => br_f (by decide) ?_) (fun z => absurd ⟨p, hp, rfl⟩ z)
  exact ⟨193, yr_14 C hR hw hh hw4 hh4 hp K 193 0 (by omega) (by omega)⟩
theorem my_occ_n (h0 : ¬ iq_P v1) (K : pos1 (-1)) : wpY_occurrences pos1 (fw, fh, ty, pt, pw, ph) v1 := by
  unfold wpY_occurrences
  exact yq_pat (fun z => absurd z h0) (fun _ => br_t rfl K)
/-! occurs -/
theorem mx_occurs {a b : Nat} (R : rl_K w h W H sr tx pw ph pt fd ty) (hp : p < 3) (ha : a < w) (hb : b < h)
    (K1 : oc_O w h tx pt W H p a b → ∀ kc' sr' br' fb' nq' re' rn' fl' fd' pg', oc_F w h tx pt W H fd' → post 1 (nI w, nI h, kc', sr', tx, pw, ph, pt, br', fb', nq', re', rn', fl', fd', pg'))
    (K0 : ¬ oc_O w h tx pt W H p a b → ∀ kc' sr' br' fb' nq' re' rn' fl' fd' pg', oc_F w h tx pt W H fd' → post 0 (nI w, nI h, kc', sr', tx, pw, ph, pt, br', fb', nq', re', rn', fl', fd', pg')) :
    wpX_occurs post (nI w, nI h, kc, sr, tx, pw, ph, pt, br, fb, nq, re, rn, fl, fd, pg) (nI p) (nI a) (nI b) := by
  obtain ⟨⟨hw4, hw, hh4, hh⟩, C, hT, hR, hs⟩ := R
  unfold wpX_occurs
  refine xq_pat (fun _ => br_f (by decide) ?_) (fun z => absurd ⟨p, hp, rfl⟩ z)
  refine xq_in hw hh (fun _ => br_f (by decide) ?_) (fun z => absurd ⟨a, b, ha, hb, rfl, rfl⟩ z)
  refine xr_search C hT hw hh hs ?_
  intro kc' sr' br' fb' nq' re' rn' fl' fd' pg' hF
  simp (disch := omega) only [ix_12, nI_clamp, vp_in_nI, true_and]
  exact xo_bit hp (by omega) (by omega) hF (fun o => K0 o _ _ _ _ _ _ _ _ _ _ hF) (fun o => K1 o _ _ _ _ _ _ _ _ _ _ hF)
theorem mx_occurs_n (hw : w ≤ 12) (hh : h ≤ 12) (h0 : ¬ (iq_P v1 ∧ iq_T w h v2 v3)) (K : post 0 (nI w, nI h, kc, sr, tx, pw, ph, pt, br, fb, nq, re, rn, fl, fd, pg)) : wpX_occurs post (nI w, nI h, kc, sr, tx, pw, ph, pt, br, fb, nq, re, rn, fl, fd, pg) v1 v2 v3 := by
  unfold wpX_occurs
  exact xq_pat (fun z => br_f (by decide) (xq_in hw hh (fun z2 => absurd ⟨z, z2⟩ h0) (fun _ => br_t rfl K))) (fun _ => br_t rfl K)
theorem my_occurs_n (R : rl_K w h W H sr tx pw ph pt fd ty) (h0 : ¬ (iq_P v1 ∧ iq_T w h v2 v3)) (K : pos1 0) : wpY_occurs pos1 (nI w, nI h, ty, pt, pw, ph) v1 v2 v3 := by
  unfold wpY_occurs
  refine yq_fit_n R ?_ (br_t rfl K)
  rintro ⟨p, hp, rfl, a, b, ha, hb, rfl, rfl⟩
  have hW1 := (R.2.1.1 p hp).2.1
  have hH1 := (R.2.1.2.1 p hp).2.1
  exact h0 ⟨⟨p, hp, rfl⟩, a, b, by omega, by omega, rfl, rfl⟩
/-! next -/
theorem mx_next (R : rl_K w h W H sr tx pw ph pt fd ty) (hp : p < 3)
    (K : ∀ r, nx_A w h tx pt W H p v2 r → ∀ kc' sr' br' fb' nq' re' rn' fl' fd' pg', oc_F w h tx pt W H fd' → post r (nI w, nI h, kc', sr', tx, pw, ph, pt, br', fb', nq', re', rn', fl', fd', pg')) :
    wpX_next post (nI w, nI h, kc, sr, tx, pw, ph, pt, br, fb, nq, re, rn, fl, fd, pg) (nI p) v2 := by
  obtain ⟨⟨hw4, hw, hh4, hh⟩, C, hT, hR, hs⟩ := R
  unfold wpX_next
  refine xq_pat (fun _ => br_f (by decide) ?_) (fun z => absurd ⟨p, hp, rfl⟩ z)
  refine xr_search C hT hw hh hs ?_
  intro kc' sr' br' fb' nq' re' rn' fl' fd' pg' hF
  exact ⟨13, xn_16 hw hh hp hF (C.1 p hp).2.1 (C.2.1 p hp).2.1 (fun r hr => K r hr _ _ _ _ _ _ _ _ _ _ hF) 13 0 (by omega) (by omega) (fun k hk => absurd hk (Nat.not_lt_zero _))⟩
theorem mx_next_n (h0 : ¬ iq_P v1) (K : post (-1) (fw, fh, kc, sr, tx, pw, ph, pt, br, fb, nq, re, rn, fl, fd, pg)) : wpX_next post (fw, fh, kc, sr, tx, pw, ph, pt, br, fb, nq, re, rn, fl, fd, pg) v1 v2 := by
  unfold wpX_next
  exact xq_pat (fun z => absurd z h0) (fun _ => br_t rfl K)
theorem my_next (R : rl_K w h W H sr tx pw ph pt fd ty) (hp : p < 3) (K : ∀ r, nx_A w h tx pt W H p v2 r → pos1 r) : wpY_next pos1 (nI w, nI h, ty, pt, pw, ph) (nI p) v2 := by
  obtain ⟨⟨hw4, hw, hh4, hh⟩, C, hT, hR, hs⟩ := R
  unfold wpY_next
  refine yq_pat (fun _ => br_f (by decide) ?_) (fun z => absurd ⟨p, hp, rfl⟩ z)
  exact ⟨193, yn_12 C hR hw hh hw4 hh4 hp K 193 0 (by omega) (by omega) (fun k hk => absurd hk (Nat.not_lt_zero _))⟩
theorem my_next_n (h0 : ¬ iq_P v1) (K : pos1 (-1)) : wpY_next pos1 (fw, fh, ty, pt, pw, ph) v1 v2 := by
  unfold wpY_next
  exact yq_pat (fun z => absurd z h0) (fun _ => br_t rfl K)
/-! covered -/
theorem mx_cov (R : rl_K w h W H sr tx pw ph pt fd ty)
    (K : ∀ kc' sr' br' fb' nq' re' rn' fl' fd' pg', oc_F w h tx pt W H fd' → post (nI (sg_s (fun y => sg_s (fun x => sg_b (cv_A w h tx pt W H x y)) 12) h)) (nI w, nI h, kc', sr', tx, pw, ph, pt, br', fb', nq', re', rn', fl', fd', pg')) :
    wpX_covered post (nI w, nI h, kc, sr, tx, pw, ph, pt, br, fb, nq, re, rn, fl, fd, pg) := by
  obtain ⟨⟨hw4, hw, hh4, hh⟩, C, hT, hR, hs⟩ := R
  unfold wpX_covered
  refine xr_search C hT hw hh hs ?_
  intro kc' sr' br' fb' nq' re' rn' fl' fd' pg' hF
  exact ⟨13, xv_8 C hh hF (K _ _ _ _ _ _ _ _ _ _ hF) 13 0 (by omega) (by omega)⟩
theorem my_cov (R : rl_K w h W H sr tx pw ph pt fd ty) (K : pos1 (nI (sg_s (fun k => sg_b (cv_A w h tx pt W H (k % 16) (k / 16))) 192))) : wpY_covered pos1 (nI w, nI h, ty, pt, pw, ph) := by
  obtain ⟨⟨hw4, hw, hh4, hh⟩, C, hT, hR, hs⟩ := R
  unfold wpY_covered
  exact ⟨193, yc_4 C hR hw hh hw4 hh4 K 193 0 (by omega) (by omega)⟩
/-! overlaps -/
theorem mx_ov (R : rl_K w h W H sr tx pw ph pt fd ty) (hp : p < 3)
    (K : ∀ kc' sr' br' fb' nq' re' rn' fl' fd' pg', oc_F w h tx pt W H fd' → post (nI (sg_s (fun y => sg_s (fun d => ov_M w h tx pt W H p y d) (H p)) h)) (nI w, nI h, kc', sr', tx, pw, ph, pt, br', fb', nq', re', rn', fl', fd', pg')) :
    wpX_overlaps post (nI w, nI h, kc, sr, tx, pw, ph, pt, br, fb, nq, re, rn, fl, fd, pg) (nI p) := by
  obtain ⟨⟨hw4, hw, hh4, hh⟩, C, hT, hR, hs⟩ := R
  unfold wpX_overlaps
  refine xq_pat (fun _ => br_f (by decide) ?_) (fun z => absurd ⟨p, hp, rfl⟩ z)
  refine xr_search C hT hw hh hs ?_
  intro kc' sr' br' fb' nq' re' rn' fl' fd' pg' hF
  exact ⟨13, xm_18 C hp hh hF (K _ _ _ _ _ _ _ _ _ _ hF) 13 0 (by omega) (by omega)⟩
theorem mx_ov_n (h0 : ¬ iq_P v1) (K : post (-1) (fw, fh, kc, sr, tx, pw, ph, pt, br, fb, nq, re, rn, fl, fd, pg)) : wpX_overlaps post (fw, fh, kc, sr, tx, pw, ph, pt, br, fb, nq, re, rn, fl, fd, pg) v1 := by
  unfold wpX_overlaps
  exact xq_pat (fun z => absurd z h0) (fun _ => br_t rfl K)
theorem my_ov (R : rl_K w h W H sr tx pw ph pt fd ty) (hp : p < 3) (K : pos1 (nI (sg_s (fun k => sg_s (fun k2 => yv_f w h tx pt W H p k k2) 192) 192))) : wpY_overlaps pos1 (nI w, nI h, ty, pt, pw, ph) (nI p) := by
  obtain ⟨⟨hw4, hw, hh4, hh⟩, C, hT, hR, hs⟩ := R
  unfold wpY_overlaps
  refine yq_pat (fun _ => br_f (by decide) ?_) (fun z => absurd ⟨p, hp, rfl⟩ z)
  exact ⟨193, yv_14 C hR hw hh hw4 hh4 hp K 193 0 (by omega) (by omega)⟩
theorem my_ov_n (h0 : ¬ iq_P v1) (K : pos1 (-1)) : wpY_overlaps pos1 (fw, fh, ty, pt, pw, ph) v1 := by
  unfold wpY_overlaps
  exact yq_pat (fun z => absurd z h0) (fun _ => br_t rfl K)
end
/-! equal answers -/
section
variable {tx pw ph pt ty fd : Nat → Int32} {sr : Int32} {W H : Nat → Nat} {w h p : Nat}
theorem eq_md (x y : Nat) (h : x < 16) : (16 * y + x) % 16 = x ∧ (16 * y + x) / 16 = y := ⟨by omega, by omega⟩
theorem eq_occ (R : rl_K w h W H sr tx pw ph pt fd ty) (hp : p < 3) :
    sg_s (fun k => sg_b (oc_O w h tx pt W H p (k % 16) (k / 16))) 192 = sg_s (fun y => sg_s (fun x => sg_b (oc_O w h tx pt W H p x y)) 12) h := by
  obtain ⟨⟨hw4, hw, hh4, hh⟩, C, -, -, -⟩ := R
  have hW1 := (C.1 p hp).2.1
  have hH1 := (C.2.1 p hp).2.1
  refine sg_text hh (fun x y hx hy => ?_) (fun x y h1 h2 => sg_bf (fun o => by have := o.1; omega)) (fun x y h1 h2 => sg_bf (fun o => by have := o.2.1; omega))
  show sg_b _ = _
  rw [(eq_md x y hx).1, (eq_md x y hx).2]
theorem eq_cov (R : rl_K w h W H sr tx pw ph pt fd ty) :
    sg_s (fun k => sg_b (cv_A w h tx pt W H (k % 16) (k / 16))) 192 = sg_s (fun y => sg_s (fun x => sg_b (cv_A w h tx pt W H x y)) 12) h := by
  obtain ⟨⟨hw4, hw, hh4, hh⟩, C, -, -, -⟩ := R
  refine sg_text hh (fun x y hx hy => ?_) (fun x y h1 h2 => sg_bf (fun o => ?_)) (fun x y h1 h2 => sg_bf (fun o => ?_))
  · show sg_b _ = _
    rw [(eq_md x y hx).1, (eq_md x y hx).2]
  · obtain ⟨p, hp, o⟩ := o
    have := (cv_in o).1
    omega
  · obtain ⟨p, hp, o⟩ := o
    have := (cv_in o).2
    omega
theorem eq_ov (R : rl_K w h W H sr tx pw ph pt fd ty) (hp : p < 3) :
    sg_s (fun k => sg_s (fun k2 => yv_f w h tx pt W H p k k2) 192) 192 = sg_s (fun y => sg_s (fun d => ov_M w h tx pt W H p y d) (H p)) h := by
  obtain ⟨⟨hw4, hw, hh4, hh⟩, C, -, -, -⟩ := R
  have hW1 := (C.1 p hp).2.1
  have hH1 := (C.2.1 p hp).2.1
  refine sg_over (O := fun x y => oc_O w h tx pt W H p x y) (W := W p) (H := H p) (f := fun k k2 => yv_f w h tx pt W H p k k2) hh (fun x y h1 o => by have := o.1; omega) (fun x y h1 o => by have := o.2.1; omega) ?_
  intro x y x2 y2 hx hy hx2 hy2
  show sg_b _ = _
  rw [(eq_md x y hx).1, (eq_md x y hx).2, (eq_md x2 y2 hx2).1, (eq_md x2 y2 hx2).2]
end
end
section
/-! what is owed -/
theorem i_up {k : Nat} {u : SX} {v : SY} (h : i_Rel k u v) : i_Rel (k + 5) u v := h
theorem i_vc0 (k0 : Int32) (k1 : Int32) : wpX_init (fun u => wpY_init (fun v => i_Rel 2 u v) k0 k1) k0 k1 := by
  obtain ⟨w, hw4, hw, ew⟩ := in_cl k0
  obtain ⟨h, hh4, hh, eh⟩ := in_cl k1
  have R : rl_K w h (fun _ => 1) (fun _ => 1) 0 (fun _ => 0) (in_1 3) (in_1 3) (in_16 3) (fun _ => 0) (fun _ => 0) := by
    have k1 : ∀ p, p < 3 → in_1 3 p = nI 1 := fun p hp => co_3 (P := fun p => in_1 3 p = nI 1) rfl rfl rfl hp
    exact ⟨⟨hw4, hw, hh4, hh⟩, ⟨fun p hp => ⟨k1 p hp, Nat.le_refl 1, (by decide : 1 ≤ 4)⟩, fun p hp => ⟨k1 p hp, Nat.le_refl 1, (by decide : 1 ≤ 4)⟩, in_ok 3⟩, fun k _ => ⟨0, by omega, rfl⟩, fun _ _ _ _ => rfl, fun z => absurd rfl z⟩
  have hY : wpY_init (fun v => i_Rel 2 (nI w, nI h, 0, 0, fun _ => 0, in_1 3, in_1 3, in_16 3, fun _ => 0, fun _ => 0, fun _ => 0, fun _ => 0, fun _ => 0, fun _ => 0, fun _ => 0, fun _ => 0) v) k0 k1 := by
    unfold wpY_init
    refine ew (fun z => wY_init_57 _ k1 z 0 0 (fun _ => 0) (fun _ => 0) (fun _ => 0) (fun _ => 0)) ?_
    unfold wY_init_57
    refine eh (fun z => ∃ n, wY_init_87 _ (nI w) z n 0 (fun _ => 0) (fun _ => 0) (fun _ => 0) (fun _ => 0)) ?_
    exact ⟨4, yz_87 (rl_mk R) 4 0 (by omega) (by omega)⟩
  unfold wpX_init
  refine ew (fun z => wX_init_123 _ k1 z 0 0 0 0 (fun _ => 0) (fun _ => 0) (fun _ => 0) (fun _ => 0) (fun _ => 0) (fun _ => 0) (fun _ => 0) (fun _ => 0) (fun _ => 0) (fun _ => 0) (fun _ => 0) (fun _ => 0)) ?_
  unfold wX_init_123
  refine eh (fun z => ∃ n, wX_init_153 _ (nI w) z 0 0 n 0 (fun _ => 0) (fun _ => 0) (fun _ => 0) (fun _ => 0) (fun _ => 0) (fun _ => 0) (fun _ => 0) (fun _ => 0) (fun _ => 0) (fun _ => 0) (fun _ => 0) (fun _ => 0)) ?_
  exact ⟨4, xz_153 hY 4 0 (by omega) (by omega)⟩
theorem i_vc_write {k : Nat} {u : SX} {v : SY} (I : i_Rel k u v) (hk : k + 5 ≤ 2562) (v1 : Int32) (v2 : Int32) (v3 : Int32) : wpX_write (fun r u' => wpY_write (fun r' v' => r' = r ∧ i_Rel (k + 5) u' v') v v1 v2 v3) u v1 v2 v3 := by
  refine rl_el (P := fun u v => wpX_write (fun r u' => wpY_write (fun r' v' => r' = r ∧ i_Rel (k + 5) u' v') v v1 v2 v3) u v1 v2 v3) ?_ I
  intro w h W H kc sr tx pw ph pt br fb nq re rn fl fd pg ty R
  have ⟨⟨hw4, hw, hh4, hh⟩, C, hT, hR, hs⟩ := R
  by_cases hc : iq_T w h v1 v2 ∧ iq_P v3
  · obtain ⟨⟨a, b, ha, hb, rfl, rfl⟩, c, hc, rfl⟩ := hc
    exact mx_write hw hh ha hb hc (my_write hw hh ha hb hc ⟨rfl, rl_mk ⟨⟨hw4, hw, hh4, hh⟩, C, cx_updV hT ⟨c, hc, rfl⟩, ry_upd hR (by omega) (by omega), fun z => absurd rfl z⟩⟩)
  · exact mx_write_n hw hh hc (my_write_n hw hh hc ⟨rfl, rl_mk R⟩)
theorem i_vc_shape {k : Nat} {u : SX} {v : SY} (I : i_Rel k u v) (hk : k + 5 ≤ 2562) (v1 : Int32) (v2 : Int32) (v3 : Int32) : wpX_shape (fun r u' => wpY_shape (fun r' v' => r' = r ∧ i_Rel (k + 5) u' v') v v1 v2 v3) u v1 v2 v3 := by
  refine rl_el (P := fun u v => wpX_shape (fun r u' => wpY_shape (fun r' v' => r' = r ∧ i_Rel (k + 5) u' v') v v1 v2 v3) u v1 v2 v3) ?_ I
  intro w h W H kc sr tx pw ph pt br fb nq re rn fl fd pg ty R
  have ⟨hb0, C, hT, hR, hs⟩ := R
  by_cases hc : iq_P v1 ∧ iq_S v2 ∧ iq_S v3
  · obtain ⟨⟨p, hp, rfl⟩, ⟨a, ha1, ha2, rfl⟩, ⟨b, hb1, hb2, rfl⟩⟩ := hc
    refine mx_shape hp ⟨ha1, ha2⟩ ⟨hb1, hb2⟩ (my_shape hp ⟨ha1, ha2⟩ ⟨hb1, hb2⟩ ⟨rfl, rl_mk (W := fun q => if q = p then a else W q) (H := fun q => if q = p then b else H q) ⟨hb0, ⟨?_, ?_, sh_ok C.2.2 16⟩, hT, hR, fun z => absurd rfl z⟩⟩)
    · intro q hq
      dsimp only
      by_cases z : q = p
      · subst z; rw [if_pos rfl]; exact ⟨pk_us, ha1, ha2⟩
      · rw [if_neg z, pk_un z]; exact C.1 q hq
    · intro q hq
      dsimp only
      by_cases z : q = p
      · subst z; rw [if_pos rfl]; exact ⟨pk_us, hb1, hb2⟩
      · rw [if_neg z, pk_un z]; exact C.2.1 q hq
  · exact mx_shape_n hc (my_shape_n hc ⟨rfl, rl_mk R⟩)
theorem i_vc_paint {k : Nat} {u : SX} {v : SY} (I : i_Rel k u v) (hk : k + 5 ≤ 2562) (v1 : Int32) (v2 : Int32) (v3 : Int32) (v4 : Int32) : wpX_paint (fun r u' => wpY_paint (fun r' v' => r' = r ∧ i_Rel (k + 5) u' v') v v1 v2 v3 v4) u v1 v2 v3 v4 := by
  refine rl_el (P := fun u v => wpX_paint (fun r u' => wpY_paint (fun r' v' => r' = r ∧ i_Rel (k + 5) u' v') v v1 v2 v3 v4) u v1 v2 v3 v4) ?_ I
  intro w h W H kc sr tx pw ph pt br fb nq re rn fl fd pg ty R
  have ⟨hb0, C, hT, hR, hs⟩ := R
  by_cases hp : iq_P v1
  · obtain ⟨p, hp, rfl⟩ := hp
    by_cases hc : iq_B (W p) v2 ∧ iq_B (H p) v3 ∧ iq_P v4
    · obtain ⟨⟨a, ha, rfl⟩, ⟨b, hb, rfl⟩, c, hc, rfl⟩ := hc
      exact mx_paint C hp ha hb hc (my_paint C hp ha hb hc ⟨rfl, rl_mk (W := W) (H := H) ⟨hb0, ⟨C.1, C.2.1, cx_updV C.2.2 ⟨c, hc, rfl⟩⟩, hT, hR, fun z => absurd rfl z⟩⟩)
    · exact mx_paint_n C hp hc (my_paint_n C hp hc ⟨rfl, rl_mk R⟩)
  · exact mx_paint_p hp (my_paint_p hp ⟨rfl, rl_mk R⟩)
theorem i_vc_copy {k : Nat} {u : SX} {v : SY} (I : i_Rel k u v) (hk : k + 5 ≤ 2562) (v1 : Int32) (v2 : Int32) (v3 : Int32) : wpX_copy (fun r u' => wpY_copy (fun r' v' => r' = r ∧ i_Rel (k + 5) u' v') v v1 v2 v3) u v1 v2 v3 := by
  refine rl_el (P := fun u v => wpX_copy (fun r u' => wpY_copy (fun r' v' => r' = r ∧ i_Rel (k + 5) u' v') v v1 v2 v3) u v1 v2 v3) ?_ I
  intro w h W H kc sr tx pw ph pt br fb nq re rn fl fd pg ty R
  have ⟨⟨hw4, hw, hh4, hh⟩, C, hT, hR, hs⟩ := R
  by_cases hc : ∃ p, p < 3 ∧ v1 = nI p ∧ iq_F w h W H p v2 v3
  · obtain ⟨p, hp, rfl, a, b, ha, hb, rfl, rfl⟩ := hc
    refine mx_copy R hp ha hb (my_copy R hp ha hb ⟨rfl, rl_mk (W := W) (H := H) ⟨⟨hw4, hw, hh4, hh⟩, ⟨C.1, C.2.1, ?_⟩, hT, hR, fun z => absurd rfl z⟩⟩)
    refine dl_1 (P := fun (f : Nat → Int32) => ∀ k, k < 48 → ∃ c, c < 3 ∧ f k = nI c) ?_ C.2.2
    intro i j f hi hj hf
    exact cx_updV hf (hT (12 * (b + i) + (a + j)) (by omega))
  · exact mx_copy_n R hc (my_copy_n R hc ⟨rfl, rl_mk R⟩)
theorem i_vc_stamp {k : Nat} {u : SX} {v : SY} (I : i_Rel k u v) (hk : k + 5 ≤ 2562) (v1 : Int32) (v2 : Int32) (v3 : Int32) : wpX_stamp (fun r u' => wpY_stamp (fun r' v' => r' = r ∧ i_Rel (k + 5) u' v') v v1 v2 v3) u v1 v2 v3 := by
  refine rl_el (P := fun u v => wpX_stamp (fun r u' => wpY_stamp (fun r' v' => r' = r ∧ i_Rel (k + 5) u' v') v v1 v2 v3) u v1 v2 v3) ?_ I
  intro w h W H kc sr tx pw ph pt br fb nq re rn fl fd pg ty R
  have ⟨⟨hw4, hw, hh4, hh⟩, C, hT, hR, hs⟩ := R
  by_cases hc : ∃ p, p < 3 ∧ v1 = nI p ∧ iq_F w h W H p v2 v3
  · obtain ⟨p, hp, rfl, a, b, ha, hb, rfl, rfl⟩ := hc
    have hW4 := (C.1 p hp).2.2
    have hH4 := (C.2.1 p hp).2.2
    refine mx_stamp R hp ha hb (my_stamp R hp ha hb ⟨rfl, rl_mk ⟨⟨hw4, hw, hh4, hh⟩, C, ?_, ?_, fun z => absurd rfl z⟩⟩)
    · refine dl_1 (P := cx_T) ?_ hT
      intro i j f hi hj hf
      exact cx_updV hf (C.2.2 (16 * p + 4 * i + j) (by omega))
    · refine dl_2 (P := ry_T) (h := H p) ?_ hR (H p) (Nat.le_refl _)
      intro i j f g hi hj hf
      exact ry_upd hf (by omega) (by omega)
  · exact mx_stamp_n R hc (my_stamp_n R hc ⟨rfl, rl_mk R⟩)
theorem i_vc_letter {k : Nat} {u : SX} {v : SY} (I : i_Rel k u v) (hk : k + 5 ≤ 2562) (v1 : Int32) (v2 : Int32) : wpX_letter (fun r => wpY_letter (fun r' => r' = r ∧ i_Rel (k + 5) u v) v v1 v2) u v1 v2 := by
  refine rl_el (P := fun u v => wpX_letter (fun r => wpY_letter (fun r' => r' = r ∧ i_Rel (k + 5) u v) v v1 v2) u v1 v2) ?_ I
  intro w h W H kc sr tx pw ph pt br fb nq re rn fl fd pg ty R
  have ⟨⟨hw4, hw, hh4, hh⟩, C, hT, hR, hs⟩ := R
  by_cases hc : iq_T w h v1 v2
  · obtain ⟨a, b, ha, hb, rfl, rfl⟩ := hc
    exact mx_letter hw hh ha hb (my_letter hw hh ha hb ⟨hR a b (by omega) (by omega), rl_mk R⟩)
  · exact mx_letter_n hw hh hc (my_letter_n hw hh hc ⟨rfl, rl_mk R⟩)
theorem i_vc_occurrences {k : Nat} {u : SX} {v : SY} (I : i_Rel k u v) (hk : k + 5 ≤ 2562) (v1 : Int32) : wpX_occurrences (fun r u' => wpY_occurrences (fun r' => r' = r ∧ i_Rel (k + 5) u' v) v v1) u v1 := by
  refine rl_el (P := fun u v => wpX_occurrences (fun r u' => wpY_occurrences (fun r' => r' = r ∧ i_Rel (k + 5) u' v) v v1) u v1) ?_ I
  intro w h W H kc sr tx pw ph pt br fb nq re rn fl fd pg ty R
  by_cases hp : iq_P v1
  · obtain ⟨p, hp, rfl⟩ := hp
    refine mx_occ R hp ?_
    intro kc' sr' br' fb' nq' re' rn' fl' fd' pg' hF
    exact my_occ R hp ⟨congrArg nI (eq_occ R hp), rl_mk (rl_s0 R hF)⟩
  · exact mx_occ_n hp (my_occ_n hp ⟨rfl, rl_mk R⟩)
theorem i_vc_occurs {k : Nat} {u : SX} {v : SY} (I : i_Rel k u v) (hk : k + 5 ≤ 2562) (v1 : Int32) (v2 : Int32) (v3 : Int32) : wpX_occurs (fun r u' => wpY_occurs (fun r' => r' = r ∧ i_Rel (k + 5) u' v) v v1 v2 v3) u v1 v2 v3 := by
  refine rl_el (P := fun u v => wpX_occurs (fun r u' => wpY_occurs (fun r' => r' = r ∧ i_Rel (k + 5) u' v) v v1 v2 v3) u v1 v2 v3) ?_ I
  intro w h W H kc sr tx pw ph pt br fb nq re rn fl fd pg ty R
  have ⟨⟨hw4, hw, hh4, hh⟩, C, hT, hR, hs⟩ := R
  by_cases hc : iq_P v1 ∧ iq_T w h v2 v3
  · obtain ⟨⟨p, hp, rfl⟩, a, b, ha, hb, rfl, rfl⟩ := hc
    refine mx_occurs R hp ha hb ?_ ?_
    · intro o kc' sr' br' fb' nq' re' rn' fl' fd' pg' hF
      exact yo_at C hR hw hh hw4 hh4 hp (by omega) (by omega) (fun _ => ⟨rfl, rl_mk (rl_s0 R hF)⟩) (fun z => absurd o z)
    · intro o kc' sr' br' fb' nq' re' rn' fl' fd' pg' hF
      exact yo_at C hR hw hh hw4 hh4 hp (by omega) (by omega) (fun z => absurd z o) (fun _ => ⟨rfl, rl_mk (rl_s0 R hF)⟩)
  · exact mx_occurs_n hw hh hc (my_occurs_n R hc ⟨rfl, rl_mk R⟩)
theorem i_vc_next {k : Nat} {u : SX} {v : SY} (I : i_Rel k u v) (hk : k + 5 ≤ 2562) (v1 : Int32) (v2 : Int32) : wpX_next (fun r u' => wpY_next (fun r' => r' = r ∧ i_Rel (k + 5) u' v) v v1 v2) u v1 v2 := by
  refine rl_el (P := fun u v => wpX_next (fun r u' => wpY_next (fun r' => r' = r ∧ i_Rel (k + 5) u' v) v v1 v2) u v1 v2) ?_ I
  intro w h W H kc sr tx pw ph pt br fb nq re rn fl fd pg ty R
  by_cases hp : iq_P v1
  · obtain ⟨p, hp, rfl⟩ := hp
    refine mx_next R hp ?_
    intro r hr kc' sr' br' fb' nq' re' rn' fl' fd' pg' hF
    exact my_next R hp (fun r' hr' => ⟨nx_uniq hr hr', rl_mk (rl_s0 R hF)⟩)
  · exact mx_next_n hp (my_next_n hp ⟨rfl, rl_mk R⟩)
theorem i_vc_covered {k : Nat} {u : SX} {v : SY} (I : i_Rel k u v) (hk : k + 5 ≤ 2562) : wpX_covered (fun r u' => wpY_covered (fun r' => r' = r ∧ i_Rel (k + 5) u' v) v) u := by
  refine rl_el (P := fun u v => wpX_covered (fun r u' => wpY_covered (fun r' => r' = r ∧ i_Rel (k + 5) u' v) v) u) ?_ I
  intro w h W H kc sr tx pw ph pt br fb nq re rn fl fd pg ty R
  refine mx_cov R ?_
  intro kc' sr' br' fb' nq' re' rn' fl' fd' pg' hF
  exact my_cov R ⟨congrArg nI (eq_cov R), rl_mk (rl_s0 R hF)⟩
theorem i_vc_overlaps {k : Nat} {u : SX} {v : SY} (I : i_Rel k u v) (hk : k + 5 ≤ 2562) (v1 : Int32) : wpX_overlaps (fun r u' => wpY_overlaps (fun r' => r' = r ∧ i_Rel (k + 5) u' v) v v1) u v1 := by
  refine rl_el (P := fun u v => wpX_overlaps (fun r u' => wpY_overlaps (fun r' => r' = r ∧ i_Rel (k + 5) u' v) v v1) u v1) ?_ I
  intro w h W H kc sr tx pw ph pt br fb nq re rn fl fd pg ty R
  by_cases hp : iq_P v1
  · obtain ⟨p, hp, rfl⟩ := hp
    refine mx_ov R hp ?_
    intro kc' sr' br' fb' nq' re' rn' fl' fd' pg' hF
    exact my_ov R hp ⟨congrArg nI (eq_ov R hp), rl_mk (rl_s0 R hF)⟩
  · exact mx_ov_n hp (my_ov_n hp ⟨rfl, rl_mk R⟩)
end
