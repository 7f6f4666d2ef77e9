section
theorem pk_us {f : Nat → Int32} {k : Nat} {x : Int32} : upd f k x k = x := if_pos rfl
theorem pk_un {f : Nat → Int32} {k j : Nat} {x : Int32} (h : j ≠ k) : upd f k x j = f j := if_neg h
theorem pk_sub {a b : Nat} (h : b ≤ a) : nI a - nI b = nI (a - b) := by
  obtain ⟨c, rfl⟩ : ∃ c, a = c + b := ⟨a - b, by omega⟩
  rw [← nI_add, Int32.add_sub_cancel, Nat.add_sub_cancel]
theorem pk_m1 (n : Nat) : nI (n + 1) + (-1) = nI n := by
  rw [← nI_1, Int32.add_assoc, show (1 : Int32) + (-1) = 0 from rfl, Int32.add_zero]
theorem pk_mul (a b : Nat) : nI a * nI b = nI (a * b) := (Int32.ofNat_mul a b).symm
theorem pk_ix (x : Int32) {n : Nat} (hn : n < 2 ^ 31) : x < 0 ∨ nI n ≤ x ∨ ∃ j : Nat, j < n ∧ x = nI j := by
  by_cases h : x < 0
  · exact Or.inl h
  · obtain ⟨j, hj, rfl⟩ := nI_of h
    by_cases h2 : j < n
    · exact Or.inr (Or.inr ⟨j, h2, rfl⟩)
    · exact Or.inr (Or.inl (nI_le (by omega) hj))
theorem pk_le {x y : Int32} {A B : Prop} (a b : Nat) (f : a ≤ b → A) (g : b < a → B) (hx : x = nI a := by rfl) (hy : y = nI b := by rfl) (ha : a < 2 ^ 31 := by omega) (hb : b < 2 ^ 31 := by omega) : (x ≤ y → A) ∧ (¬ x ≤ y → B) := by
  subst hx hy
  rw [nI_leI ha hb]
  exact ⟨f, fun z => g (by omega)⟩
theorem pk_lt {x y : Int32} {A B : Prop} (a b : Nat) (f : a < b → A) (g : b ≤ a → B) (hx : x = nI a := by rfl) (hy : y = nI b := by rfl) (ha : a < 2 ^ 31 := by omega) (hb : b < 2 ^ 31 := by omega) : (x < y → A) ∧ (¬ x < y → B) := by
  subst hx hy
  rw [nI_ltI ha hb]
  exact ⟨f, fun z => g (by omega)⟩
theorem pk_eq {x y : Int32} {A B : Prop} (a b : Nat) (f : a = b → A) (g : a ≠ b → B) (hx : x = nI a := by rfl) (hy : y = nI b := by rfl) (ha : a < 2 ^ 31 := by omega) (hb : b < 2 ^ 31 := by omega) : (x = y → A) ∧ (¬ x = y → B) := by
  subst hx hy
  rw [nI_eq ha hb]
  exact ⟨f, g⟩
theorem pk_in {x : Int32} (n N : Nat) (h : n < N) (hx : x = nI n := by rfl) (hN : N < 2 ^ 31 := by omega) : vp_in x N := by
  subst hx
  exact vp_in_nI h hN
theorem pk_cl {x : Int32} (n : Nat) (hx : x = nI n := by rfl) (h : n < 2 ^ 31 := by omega) : x.toNatClampNeg = n := by
  subst hx
  exact nI_clamp h
theorem pk_tn {n : Nat} (h : n < 2 ^ 32) : (nI n).toBitVec.toNat = n := Nat.mod_eq_of_lt h
theorem pk_and (x : Int32) {m : Int32} (k : Nat) (hm : m.toBitVec.toNat = 2 ^ k - 1) : x &&& m = nI (x.toBitVec.toNat % 2 ^ k) := by
  apply Int32.toBitVec_inj.mp
  apply BitVec.eq_of_toNat_eq
  rw [Int32.toBitVec_and, BitVec.toNat_and, hm, Nat.and_two_pow_sub_one_eq_mod]
  show _ = (BitVec.ofNat 32 _).toNat
  rw [BitVec.toNat_ofNat]
  exact (Nat.mod_eq_of_lt (Nat.lt_of_le_of_lt (Nat.mod_le _ _) x.toBitVec.isLt)).symm
theorem pk_andE (x : Int32) {m : Int32} (k : Nat) (hm : m.toBitVec.toNat = 2 ^ k - 1) : ∃ j : Nat, j < 2 ^ k ∧ x &&& m = nI j := ⟨_, Nat.mod_lt _ (Nat.two_pow_pos k), pk_and x k hm⟩
theorem pk_andIn (x : Int32) {m : Int32} (k : Nat) (hm : m.toBitVec.toNat = 2 ^ k - 1) (hk : k ≤ 30) : vp_in (x &&& m) (2 ^ k) := by
  obtain ⟨j, hj, e⟩ := pk_andE x k hm
  rw [e]
  exact vp_in_nI hj (Nat.lt_of_le_of_lt (Nat.pow_le_pow_right (by decide) hk) (by decide))
theorem pk_shl (a s : Int32) (k : Nat) (hs : (s.toBitVec.smod 32).toNat = k) : (a <<< s).toBitVec.toNat = a.toBitVec.toNat * 2 ^ k % 2 ^ 32 := by
  show (a.toBitVec <<< (s.toBitVec.smod 32).toNat).toNat = _
  rw [hs, BitVec.toNat_shiftLeft, Nat.shiftLeft_eq]
theorem pk_shlN {n : Nat} (s : Int32) (k : Nat) (hs : (s.toBitVec.smod 32).toNat = k) (h : n * 2 ^ k < 2 ^ 32) : nI n <<< s = nI (n * 2 ^ k) := by
  apply Int32.toBitVec_inj.mp
  apply BitVec.eq_of_toNat_eq
  have hn : n < 2 ^ 32 := Nat.lt_of_le_of_lt (Nat.le_mul_of_pos_right n (Nat.two_pow_pos k)) h
  rw [pk_shl _ _ k hs, pk_tn hn, pk_tn h, Nat.mod_eq_of_lt h]
theorem pk_shr (a s : Int32) (k : Nat) (hs : (s.toBitVec.smod 32).toNat = k) : (a >>> s).toInt = a.toInt >>> k := by
  show (a.toBitVec.sshiftRight (s.toBitVec.smod 32).toNat).toInt = _
  rw [hs, BitVec.toInt_sshiftRight]
  rfl
theorem pk_shrN {n : Nat} (h : n < 2 ^ 31) (s : Int32) (k : Nat) (hs : (s.toBitVec.smod 32).toNat = k) : nI n >>> s = nI (n / 2 ^ k) := by
  apply Int32.toInt_inj.mp
  have h2 : n / 2 ^ k ≤ n := Nat.div_le_self _ _
  rw [pk_shr _ _ k hs, nI_toInt h, nI_toInt (by omega), Int.shiftRight_eq_div_pow]
  rfl
end
section
/-! counting over the naturals below n, pigeonhole, updates of Nat functions -/
def hh_up (f : Nat → Nat) (k v : Nat) : Nat → Nat := fun j => if j = k then v else f j
theorem hh_us {f : Nat → Nat} {k v : Nat} : hh_up f k v k = v := if_pos rfl
theorem hh_un {f : Nat → Nat} {k v j : Nat} (h : j ≠ k) : hh_up f k v j = f j := if_neg h
theorem hh_id (f : Nat → Nat) (k : Nat) : hh_up f k (f k) = f := by
  funext j
  by_cases h : j = k
  · subst h; exact hh_us
  · exact hh_un h
theorem hh_nI_up (f : Nat → Nat) (k v : Nat) : upd (fun j => nI (f j)) k (nI v) = fun j => nI (hh_up f k v j) := by
  funext j
  by_cases h : j = k
  · subst h; rw [pk_us, hh_us]
  · rw [pk_un h, hh_un h]
noncomputable def hh_cn (p : Nat → Prop) : Nat → Nat
  | 0 => 0
  | n + 1 => hh_cn p n + @ite Nat (p n) (Classical.propDecidable _) 1 0
theorem cn_0 {p : Nat → Prop} : hh_cn p 0 = 0 := rfl
theorem cn_t {p : Nat → Prop} {n : Nat} (h : p n) : hh_cn p (n + 1) = hh_cn p n + 1 := by
  show hh_cn p n + @ite Nat (p n) (Classical.propDecidable _) 1 0 = _
  rw [if_pos h]
theorem cn_f {p : Nat → Prop} {n : Nat} (h : ¬ p n) : hh_cn p (n + 1) = hh_cn p n := by
  show hh_cn p n + @ite Nat (p n) (Classical.propDecidable _) 1 0 = _
  rw [if_neg h, Nat.add_zero]
theorem cn_congr {p q : Nat → Prop} : ∀ n : Nat, (∀ i, i < n → (p i ↔ q i)) → hh_cn p n = hh_cn q n := by
  intro n
  induction n with
  | zero => intro _; rfl
  | succ n ih =>
    intro h
    have e := ih (fun i hi => h i (by omega))
    by_cases c : p n
    · rw [cn_t c, cn_t ((h n (by omega)).mp c), e]
    · rw [cn_f c, cn_f (fun z => c ((h n (by omega)).mpr z)), e]
theorem cn_le {p : Nat → Prop} : ∀ n : Nat, hh_cn p n ≤ n := by
  intro n
  induction n with
  | zero => exact Nat.le_refl _
  | succ n ih =>
    by_cases c : p n
    · rw [cn_t c]; omega
    · rw [cn_f c]; omega
theorem cn_mono {p q : Nat → Prop} : ∀ n : Nat, (∀ i, i < n → p i → q i) → hh_cn p n ≤ hh_cn q n := by
  intro n
  induction n with
  | zero => intro _; exact Nat.le_refl _
  | succ n ih =>
    intro h
    have e := ih (fun i hi => h i (by omega))
    by_cases c : p n
    · rw [cn_t c, cn_t (h n (by omega) c)]; omega
    · rw [cn_f c]
      by_cases d : q n
      · rw [cn_t d]; omega
      · rw [cn_f d]; exact e
theorem cn_add1 {p q : Nat → Prop} {k : Nat} (hp : ¬ p k) (hq : q k) : ∀ n : Nat, k < n → (∀ i, i < n → i ≠ k → (p i ↔ q i)) → hh_cn q n = hh_cn p n + 1 := by
  intro n
  induction n with
  | zero => intro h; omega
  | succ n ih =>
    intro hk h
    by_cases e : k = n
    · subst e
      rw [cn_t hq, cn_f hp, cn_congr (p := q) (q := p) k (fun i hi => (h i (by omega) (by omega)).symm)]
    · have e2 := ih (by omega) (fun i hi hik => h i (by omega) hik)
      by_cases c : p n
      · rw [cn_t c, cn_t ((h n (by omega) (by omega)).mp c), e2]
      · rw [cn_f c, cn_f (fun z => c ((h n (by omega) (by omega)).mpr z)), e2]
theorem cn_z {p : Nat → Prop} : ∀ n : Nat, (∀ i, i < n → ¬ p i) → hh_cn p n = 0 := by
  intro n
  induction n with
  | zero => intro _; rfl
  | succ n ih => intro h; rw [cn_f (h n (by omega))]; exact ih (fun i hi => h i (by omega))
theorem cn_lt {p : Nat → Prop} {k : Nat} (hk : ¬ p k) : ∀ n : Nat, k < n → hh_cn p n < n := by
  intro n
  induction n with
  | zero => intro h; omega
  | succ n ih =>
    intro h
    by_cases e : k = n
    · subst e; rw [cn_f hk]; exact Nat.lt_succ_of_le (cn_le k)
    · have := ih (by omega)
      by_cases c : p n
      · rw [cn_t c]; omega
      · rw [cn_f c]; omega
theorem cn_pos {p : Nat → Prop} {k : Nat} (hk : p k) : ∀ n : Nat, k < n → 0 < hh_cn p n := by
  intro n
  induction n with
  | zero => intro h; omega
  | succ n ih =>
    intro h
    by_cases e : k = n
    · subst e; rw [cn_t hk]; omega
    · have := ih (by omega)
      by_cases c : p n
      · rw [cn_t c]; omega
      · rw [cn_f c]; omega
theorem cn_ex {p : Nat → Prop} {n : Nat} (h : 0 < hh_cn p n) : ∃ k, k < n ∧ p k := by
  refine Classical.byContradiction fun z => ?_
  have := cn_z (p := p) n (fun i hi hpi => z ⟨i, hi, hpi⟩)
  omega
theorem cn_all {p : Nat → Prop} {n : Nat} (h : n ≤ hh_cn p n) : ∀ k, k < n → p k := by
  intro k hk
  refine Classical.byContradiction fun z => ?_
  have := cn_lt (p := p) z n hk
  omega
/-- two sets, one within the other, the larger not more: the same -/
theorem cn_same {p q : Nat → Prop} : ∀ n : Nat, (∀ i, i < n → p i → q i) → hh_cn q n ≤ hh_cn p n → ∀ i, i < n → q i → p i := by
  intro n
  induction n with
  | zero => intro _ _ i hi; omega
  | succ n ih =>
    intro h hle i hi hq
    have h' : ∀ i, i < n → p i → q i := fun i hi => h i (by omega)
    have m := cn_mono n h'
    by_cases c : p n
    · rw [cn_t c, cn_t (h n (by omega) c)] at hle
      by_cases e : i = n
      · subst e; exact c
      · exact ih h' (by omega) i (by omega) hq
    · by_cases d : q n
      · rw [cn_t d, cn_f c] at hle; omega
      · rw [cn_f d, cn_f c] at hle
        by_cases e : i = n
        · subst e; exact absurd hq d
        · exact ih h' hle i (by omega) hq
theorem cn_sum {p q r : Nat → Prop} : ∀ n : Nat, (∀ i, i < n → (r i ↔ p i ∨ q i)) → (∀ i, i < n → ¬ (p i ∧ q i)) → hh_cn r n = hh_cn p n + hh_cn q n := by
  intro n
  induction n with
  | zero => intro _ _; rfl
  | succ n ih =>
    intro h hd
    have e := ih (fun i hi => h i (by omega)) (fun i hi => hd i (by omega))
    have hn := h n (by omega)
    have dn := hd n (by omega)
    by_cases c : p n
    · have nq : ¬ q n := fun z => dn ⟨c, z⟩
      rw [cn_t c, cn_f nq, cn_t (hn.mpr (Or.inl c)), e]; omega
    · by_cases d : q n
      · rw [cn_f c, cn_t d, cn_t (hn.mpr (Or.inr d)), e]; omega
      · rw [cn_f c, cn_f d, cn_f (fun z => (hn.mp z).elim c d), e]
/-- two points outside -/
theorem cn_lt2 {p : Nat → Prop} {j k n : Nat} (hj : ¬ p j) (hk : ¬ p k) (hjn : j < n) (hkn : k < n) (hjk : j ≠ k) : hh_cn p n + 1 < n := by
  have e := cn_add1 (p := p) (q := fun i => p i ∨ i = k) (k := k) hk (Or.inr rfl) n hkn (fun i _ hik => ⟨Or.inl, fun z => z.elim id (fun w => absurd w hik)⟩)
  have l := cn_lt (p := fun i => p i ∨ i = k) (k := j) (fun z => z.elim hj hjk) n hjn
  omega
/-- n different numbers below m: n is at most m -/
theorem hh_pig : ∀ (m n : Nat) (f : Nat → Nat), (∀ i, i < n → f i < m) → (∀ i j, i < n → j < n → f i = f j → i = j) → n ≤ m := by
  intro m
  induction m with
  | zero =>
    intro n f h _
    refine Classical.byContradiction fun z => ?_
    have := h 0 (by omega)
    omega
  | succ m ih =>
    intro n f h inj
    by_cases e : ∃ k, k < n ∧ f k = m
    · obtain ⟨k, hk, ek⟩ := e
      have := ih (n - 1) (fun i => if i < k then f i else f (i + 1)) (by
          intro i hi
          by_cases c : i < k
          · simp only [if_pos c]
            have a := h i (by omega)
            have b : f i ≠ m := fun z => by have := inj i k (by omega) hk (z.trans ek.symm); omega
            omega
          · simp only [if_neg c]
            have a := h (i + 1) (by omega)
            have b : f (i + 1) ≠ m := fun z => by have := inj (i + 1) k (by omega) hk (z.trans ek.symm); omega
            omega) (by
          intro i j hi hj hij
          by_cases c : i < k
          · by_cases d : j < k
            · simp only [if_pos c, if_pos d] at hij
              exact inj i j (by omega) (by omega) hij
            · simp only [if_pos c, if_neg d] at hij
              have := inj i (j + 1) (by omega) (by omega) hij
              omega
          · by_cases d : j < k
            · simp only [if_neg c, if_pos d] at hij
              have := inj (i + 1) j (by omega) (by omega) hij
              omega
            · simp only [if_neg c, if_neg d] at hij
              have := inj (i + 1) (j + 1) (by omega) (by omega) hij
              omega)
      omega
    · have := ih n f (by
          intro i hi
          have a := h i hi
          have b : f i ≠ m := fun z => e ⟨i, hi, z⟩
          omega) inj
      omega
/-- a list without repetition, all below n -/
theorem hh_len : ∀ (n : Nat) (l : List Nat), l.Nodup → (∀ k, k ∈ l → k < n) → l.length ≤ n := by
  intro n l hn hl
  refine hh_pig n l.length (fun i => l.getD i 0) ?_ ?_
  · intro i hi
    refine hl _ ?_
    show l.getD i 0 ∈ l
    rw [List.getD_eq_getElem?_getD, List.getElem?_eq_getElem hi]
    exact List.getElem_mem hi
  · intro i j hi hj e
    exact (List.getD_inj hi hj hn).mp e
end
section
/-! the order of heaps: nd (which are there), an a b (a is b or above b), dp (depth) -/
def hh_GO (nd : Nat → Prop) (an : Nat → Nat → Prop) (dp : Nat → Nat) : Prop :=
  (∀ a, an a a) ∧ (∀ a b c, an a b → an b c → an a c) ∧
  (∀ a b, an a b → nd b → nd a ∧ dp a ≤ dp b ∧ (dp a = dp b → a = b)) ∧
  (∀ s a c, nd s → an a s → an c s → dp a ≤ dp c → an a c)
def hh_pit (pr : Nat → Nat) : Nat → Nat → Nat
  | 0, b => b
  | k + 1, b => hh_pit pr k (pr b)
def hh_an (pr : Nat → Nat) (a b : Nat) : Prop := ∃ k, a = hh_pit pr k b
theorem pit_add (pr : Nat → Nat) : ∀ k j b : Nat, hh_pit pr j (hh_pit pr k b) = hh_pit pr (k + j) b := by
  intro k
  induction k with
  | zero => intro j b; rw [Nat.zero_add]; rfl
  | succ k ih =>
    intro j b
    show hh_pit pr j (hh_pit pr k (pr b)) = _
    rw [ih, show k + 1 + j = (k + j) + 1 by omega]
    rfl
/-- the tree of tasks, as far as the order needs it -/
def hh_TR (nd : Nat → Prop) (pr dp : Nat → Nat) : Prop :=
  ∀ b, nd b → nd (pr b) ∧ dp (pr b) = dp b - 1 ∧ (dp b = 0 → b = 0)
theorem pit_nd {nd : Nat → Prop} {pr dp : Nat → Nat} (T : hh_TR nd pr dp) : ∀ k b : Nat, nd b → nd (hh_pit pr k b) ∧ dp (hh_pit pr k b) = dp b - k := by
  intro k
  induction k with
  | zero => intro b h; exact ⟨h, rfl⟩
  | succ k ih =>
    intro b h
    have a := T b h
    have c := ih (pr b) a.1
    refine ⟨c.1, ?_⟩
    show dp (hh_pit pr k (pr b)) = _
    rw [c.2, a.2.1]
    omega
theorem an_refl (pr : Nat → Nat) (a : Nat) : hh_an pr a a := ⟨0, rfl⟩
theorem an_trans {pr : Nat → Nat} {a b c : Nat} (h : hh_an pr a b) (h2 : hh_an pr b c) : hh_an pr a c := by
  obtain ⟨i, rfl⟩ := h
  obtain ⟨j, rfl⟩ := h2
  exact ⟨j + i, pit_add pr j i c⟩
theorem go_n {nd : Nat → Prop} {pr dp : Nat → Nat} (T : hh_TR nd pr dp) : hh_GO nd (hh_an pr) dp := by
  refine ⟨an_refl pr, fun a b c h h2 => an_trans h h2, ?_, ?_⟩
  · intro a b h hb
    obtain ⟨k, rfl⟩ := h
    have c := pit_nd T k b hb
    refine ⟨c.1, by omega, fun e => ?_⟩
    by_cases hk : k = 0
    · subst hk; rfl
    · have z : dp b = 0 := by omega
      have e1 := (T _ c.1).2.2 (by omega)
      have e2 := (T _ hb).2.2 z
      omega
  · intro s a c hs h h2 hd
    obtain ⟨i, rfl⟩ := h
    obtain ⟨j, rfl⟩ := h2
    have ci := pit_nd T i s hs
    have cj := pit_nd T j s hs
    by_cases hij : j ≤ i
    · refine ⟨i - j, ?_⟩
      rw [pit_add, show j + (i - j) = i by omega]
    · have e1 := (T _ ci.1).2.2 (by omega)
      have e2 := (T _ cj.1).2.2 (by omega)
      rw [e1, e2]
      exact an_refl pr 0
/-- a leaf: nothing that is there hangs from it -/
def hh_leaf (nd : Nat → Prop) (pr : Nat → Nat) (t : Nat) : Prop := ∀ j, nd j → j ≠ 0 → pr j ≠ t
theorem leaf_an {nd : Nat → Prop} {pr dp : Nat → Nat} (T : hh_TR nd pr dp) (p0 : pr 0 = 0) {t : Nat} (L : hh_leaf nd pr t) : ∀ b, nd b → hh_an pr t b → b = t := by
  intro b hb h
  obtain ⟨k, e⟩ := h
  induction k generalizing b with
  | zero => exact e.symm
  | succ k ih =>
    have e' := ih (pr b) (T b hb).1 e
    by_cases z : b = 0
    · subst z; rw [p0] at e'; exact e'
    · exact absurd e' (L b hb z)
/-- while task t is collected: limbo (8) hangs below t -/
def hh_an8 (pr : Nat → Nat) (t a b : Nat) : Prop := (b = 8 ∧ (a = 8 ∨ hh_an pr a t)) ∨ (b ≠ 8 ∧ a ≠ 8 ∧ hh_an pr a b)
def hh_nd8 (nd : Nat → Prop) (b : Nat) : Prop := b = 8 ∨ nd b
theorem go_8 {nd : Nat → Prop} {pr dp : Nat → Nat} (T : hh_TR nd pr dp) (n8 : ∀ b, nd b → b < 8 ∧ dp b ≤ 3) {t : Nat} (ht : nd t) : hh_GO (hh_nd8 nd) (hh_an8 pr t) (hh_up dp 8 4) := by
  have G := go_n T
  have ne8 : ∀ a, hh_an pr a t → a ≠ 8 := fun a h => by have := (n8 a (G.2.2.1 a t h ht).1).1; omega
  have d8 : ∀ a, a ≠ 8 → hh_up dp 8 4 a = dp a := fun a h => hh_un h
  have d88 : hh_up dp 8 4 8 = 4 := hh_us
  refine ⟨?_, ?_, ?_, ?_⟩
  · intro a
    by_cases h : a = 8
    · exact Or.inl ⟨h, Or.inl h⟩
    · exact Or.inr ⟨h, h, an_refl pr a⟩
  · intro a b c h h2
    rcases h2 with ⟨e, h2⟩ | ⟨e, eb, h2⟩
    · rcases h2 with e2 | h2
      · rcases h with ⟨_, h⟩ | ⟨e3, _⟩
        · exact Or.inl ⟨e, h⟩
        · exact absurd e2 e3
      · rcases h with ⟨e3, _⟩ | ⟨e3, _, h⟩
        · exact absurd e3 (ne8 b h2)
        · exact Or.inl ⟨e, Or.inr (an_trans h h2)⟩
    · rcases h with ⟨e3, _⟩ | ⟨e3, ea, h⟩
      · exact absurd e3 eb
      · exact Or.inr ⟨e, ea, an_trans h h2⟩
  · intro a b h hb
    rcases h with ⟨e, h⟩ | ⟨e, ea, h⟩
    · subst e
      rcases h with e2 | h
      · subst e2; exact ⟨Or.inl rfl, Nat.le_refl _, fun _ => rfl⟩
      · have z := G.2.2.1 a t h ht
        have y := n8 a z.1
        rw [d8 a (by omega), d88]
        exact ⟨Or.inr z.1, by omega, fun w => by omega⟩
    · have hb' : nd b := hb.elim (fun z => absurd z e) id
      have z := G.2.2.1 a b h hb'
      rw [d8 a ea, d8 b e]
      exact ⟨Or.inr z.1, z.2⟩
  · intro s a c hs h h2 hd
    rcases h with ⟨e, h⟩ | ⟨e, ea, h⟩
    · rcases h2 with ⟨_, h2⟩ | ⟨e2, _⟩
      · rcases h2 with e2 | h2
        · exact Or.inl ⟨e2, h⟩
        · have c8 := ne8 c h2
          have y := n8 c (G.2.2.1 c t h2 ht).1
          rw [d8 c c8] at hd
          rcases h with ea | h
          · subst ea; rw [d88] at hd; omega
          · have a8 := ne8 a h
            rw [d8 a a8] at hd
            exact Or.inr ⟨c8, a8, G.2.2.2 t a c ht h h2 hd⟩
      · exact absurd e e2
    · rcases h2 with ⟨e2, _⟩ | ⟨_, ec, h2⟩
      · exact absurd e2 e
      · have hs' : nd s := hs.elim (fun z => absurd z e) id
        rw [d8 a ea, d8 c ec] at hd
        exact Or.inr ⟨ec, ea, G.2.2.2 s a c hs' h h2 hd⟩
end
section
/-! chunk lists: links as a list, and what a new cell, a splice and freeing do to them -/
def hh_LC (nx : Nat → Int32) : Int32 → List Nat → Prop
  | x, [] => x = -1
  | x, k :: l => x = nI k ∧ hh_LC nx (nx k) l
theorem lc_n {nx : Nat → Int32} {x : Int32} : hh_LC nx x [] ↔ x = -1 := Iff.rfl
theorem lc_c {nx : Nat → Int32} {x : Int32} {k : Nat} {l : List Nat} : hh_LC nx x (k :: l) ↔ x = nI k ∧ hh_LC nx (nx k) l := Iff.rfl
theorem lc_upd {nx : Nat → Int32} {k : Nat} {v : Int32} : ∀ (l : List Nat) (x : Int32), k ∉ l → hh_LC nx x l → hh_LC (upd nx k v) x l := by
  intro l
  induction l with
  | nil => intro x _ h; exact h
  | cons a l ih =>
    intro x hk h
    have ha : a ≠ k := fun z => hk (List.mem_cons.mpr (Or.inl z.symm))
    have h' := lc_c.mp h
    refine lc_c.mpr ⟨h'.1, ?_⟩
    rw [pk_un ha]
    exact ih _ (fun z => hk (List.mem_cons_of_mem a z)) h'.2
theorem lc_app {nx : Nat → Int32} {k : Nat} {y : Int32} {l2 : List Nat} (h2 : hh_LC nx y l2) (hk : k ∉ l2) : ∀ (l : List Nat) (x : Int32), l.Nodup → l.getLast? = some k → hh_LC nx x l → hh_LC (upd nx k y) x (l ++ l2) := by
  intro l
  induction l with
  | nil => intro x _ h; simp at h
  | cons a l ih =>
    intro x hn hl h
    have hn' := List.nodup_cons.mp hn
    have h' := lc_c.mp h
    show hh_LC (upd nx k y) x (a :: (l ++ l2))
    cases l with
    | nil =>
      have e : a = k := by simpa using hl
      subst e
      refine lc_c.mpr ⟨h'.1, ?_⟩
      rw [pk_us]
      exact lc_upd l2 y hk h2
    | cons b r =>
      rw [List.getLast?_cons_cons] at hl
      have hm : k ∈ b :: r := List.mem_of_getLast? hl
      have ha : a ≠ k := fun z => hn'.1 (z ▸ hm)
      refine lc_c.mpr ⟨h'.1, ?_⟩
      rw [pk_un ha]
      exact ih _ hn'.2 hl h'.2
theorem lc_last : ∀ (l : List Nat), l ≠ [] → ∃ k, l.getLast? = some k := by
  intro l h
  exact ⟨l.getLast h, List.getLast?_eq_some_getLast h⟩
def hh_CW (ch fl : Nat → Nat) (L : Nat → List Nat) (fc lc kh kf nx : Nat → Int32) (fr : Int32) (us : Nat → Prop) (hp : Nat → Nat) : Prop :=
  (∀ h, h ≤ 9 → (L h).Nodup ∧ ∀ k, k ∈ L h ↔ k < 128 ∧ ch k = h) ∧
  (∀ h, h ≤ 8 → hh_LC nx (fc h) (L h) ∧ ∀ k, (L h).getLast? = some k → lc h = nI k) ∧
  hh_LC nx fr (L 9) ∧
  (∀ k, k < 128 → ch k ≤ 9 ∧ (ch k < 9 → kh k = nI (ch k) ∧ kf k = nI (fl k) ∧ 1 ≤ fl k ∧ fl k ≤ 4)) ∧
  (∀ c, us c ↔ c < 512 ∧ ch (c / 4) < 9 ∧ c % 4 < fl (c / 4)) ∧
  (∀ c, us c → hp c = ch (c / 4))
def hh_CS (fc lc kh kf nx : Nat → Int32) (fr : Int32) (us : Nat → Prop) (hp : Nat → Nat) : Prop :=
  ∃ ch fl L, hh_CW ch fl L fc lc kh kf nx fr us hp
section
variable {ch fl : Nat → Nat} {L : Nat → List Nat} {fc lc kh kf nx : Nat → Int32} {fr : Int32} {us : Nat → Prop} {hp : Nat → Nat}
theorem cs_us (W : hh_CW ch fl L fc lc kh kf nx fr us hp) {k : Nat} (hk : k < 128) (h9 : ch k < 9) : us (4 * k) ∧ hp (4 * k) = ch k := by
  have a := ((W.2.2.2.1 k hk).2 h9).2.2.1
  have e : 4 * k / 4 = k := by omega
  have u : us (4 * k) := (W.2.2.2.2.1 (4 * k)).mpr ⟨by omega, by rw [e]; exact h9, by rw [e]; omega⟩
  refine ⟨u, ?_⟩
  rw [W.2.2.2.2.2 _ u, e]
theorem cs_free (W : hh_CW ch fl L fc lc kh kf nx fr us hp) (h : ∃ k, k < 128 ∧ ¬ us (4 * k)) : ∃ k l, L 9 = k :: l := by
  obtain ⟨k, hk, hu⟩ := h
  have h9 : ch k = 9 := by
    have a := (W.2.2.2.1 k hk).1
    by_cases c : ch k < 9
    · exact absurd (cs_us W hk c).1 hu
    · omega
  have m : k ∈ L 9 := ((W.1 9 (by omega)).2 k).mpr ⟨hk, h9⟩
  cases e : L 9 with
  | nil => rw [e] at m; simp at m
  | cons a l => exact ⟨a, l, rfl⟩
theorem cs_empty (W : hh_CW ch fl L fc lc kh kf nx fr us hp) {h : Nat} (hh : h ≤ 8) (hu : ∀ c, us c → hp c ≠ h) : L h = [] := by
  cases e : L h with
  | nil => rfl
  | cons k l =>
    have m := ((W.1 h (by omega)).2 k).mp (by rw [e]; exact List.mem_cons_self)
    have u := cs_us W m.1 (by omega)
    exact absurd (u.2.trans m.2) (hu _ u.1)
theorem cs_len (W : hh_CW ch fl L fc lc kh kf nx fr us hp) {h : Nat} (hh : h ≤ 9) : (L h).length ≤ 128 :=
  hh_len 128 (L h) (W.1 h hh).1 (fun k hk => (((W.1 h hh).2 k).mp hk).1)
theorem cs_a (W : hh_CW ch fl L fc lc kh kf nx fr us hp) {h k : Nat} {l : List Nat} (hh : h ≤ 8) (e : L h = k :: l) (hf : fl k < 4) :
    ¬ us (4 * k + fl k) ∧ ∀ kf' : Nat → Int32, kf' k = nI (fl k + 1) → (∀ j, j ≠ k → kf' j = kf j) →
      hh_CS fc lc kh kf' nx fr (fun c => us c ∨ c = 4 * k + fl k) (hh_up hp (4 * k + fl k) h) := by
  have m := ((W.1 h (by omega)).2 k).mp (by rw [e]; exact List.mem_cons_self)
  have e1 : (4 * k + fl k) / 4 = k := by omega
  have e2 : (4 * k + fl k) % 4 = fl k := by omega
  constructor
  · intro u
    have := (W.2.2.2.2.1 _).mp u
    rw [e1, e2] at this
    omega
  · intro kf' h1 h2
    refine ⟨ch, hh_up fl k (fl k + 1), L, W.1, W.2.1, W.2.2.1, ?_, ?_, ?_⟩
    · intro j hj
      have a := W.2.2.2.1 j hj
      refine ⟨a.1, fun z => ?_⟩
      have b := a.2 z
      by_cases c : j = k
      · subst c; rw [h1, hh_us]; exact ⟨b.1, rfl, by omega, by omega⟩
      · rw [h2 j c, hh_un c]; exact b
    · intro c
      have a := W.2.2.2.2.1 c
      by_cases ck : c / 4 = k
      · rw [ck, hh_us]
        rw [ck] at a
        constructor
        · intro z
          rcases z with z | z
          · have := a.mp z; omega
          · omega
        · intro z
          by_cases q : c % 4 < fl k
          · exact Or.inl (a.mpr ⟨z.1, z.2.1, q⟩)
          · exact Or.inr (by omega)
      · rw [hh_un ck]
        constructor
        · intro z
          rcases z with z | z
          · exact a.mp z
          · rw [z] at ck; exact absurd e1 ck
        · intro z; exact Or.inl (a.mpr z)
    · intro c z
      by_cases q : c = 4 * k + fl k
      · rw [q, hh_us, e1, m.2]
      · rw [hh_un q]
        exact W.2.2.2.2.2 c (z.elim id (fun w => absurd w q))
theorem cs_b (W : hh_CW ch fl L fc lc kh kf nx fr us hp) {h k : Nat} {l : List Nat} (hh : h ≤ 8) (e : L 9 = k :: l) :
    k < 128 ∧ fr = nI k ∧ ¬ us (4 * k) ∧ ∀ fc' lc' kh' kf' : Nat → Int32, fc' h = nI k → (∀ j, j ≠ h → fc' j = fc j) →
      (L h = [] → lc' h = nI k) → (L h ≠ [] → lc' h = lc h) → (∀ j, j ≠ h → lc' j = lc j) → kh' k = nI h → (∀ j, j ≠ k → kh' j = kh j) →
      kf' k = nI 1 → (∀ j, j ≠ k → kf' j = kf j) →
      hh_CS fc' lc' kh' kf' (upd nx k (fc h)) (nx k) (fun c => us c ∨ c = 4 * k) (hh_up hp (4 * k) h) := by
  have m := ((W.1 9 (by omega)).2 k).mp (by rw [e]; exact List.mem_cons_self)
  have e1 : (4 * k) / 4 = k := by omega
  have l9 := W.2.2.1
  rw [e] at l9
  have l9 := lc_c.mp l9
  have nd9 := (W.1 9 (by omega)).1
  rw [e] at nd9
  have nd9 := List.nodup_cons.mp nd9
  have kn : ∀ j, j ≤ 8 → k ∉ L j := fun j hj z => by
    have := ((W.1 j (by omega)).2 k).mp z
    omega
  refine ⟨m.1, l9.1, ?_, ?_⟩
  · intro u
    have := (W.2.2.2.2.1 _).mp u
    rw [e1] at this
    omega
  · intro fc' lc' kh' kf' f1 f2 c1 c2 c3 k1 k2 g1 g2
    refine ⟨hh_up ch k h, hh_up fl k 1, fun j => if j = h then k :: L h else if j = 9 then l else L j, ?_, ?_, ?_, ?_, ?_, ?_⟩
    · intro j hj
      by_cases jh : j = h
      · subst jh
        simp only [if_true]
        refine ⟨List.nodup_cons.mpr ⟨kn j hh, (W.1 j hj).1⟩, fun x => ?_⟩
        rw [List.mem_cons]
        by_cases xk : x = k
        · subst xk; rw [hh_us]; exact ⟨fun _ => ⟨m.1, rfl⟩, fun _ => Or.inl rfl⟩
        · rw [hh_un xk, ← (W.1 j hj).2 x]
          exact ⟨fun z => z.elim (fun w => absurd w xk) id, Or.inr⟩
      · simp only [if_neg jh]
        by_cases j9 : j = 9
        · subst j9
          simp only [if_true]
          refine ⟨nd9.2, fun x => ?_⟩
          by_cases xk : x = k
          · subst xk; rw [hh_us]; exact ⟨fun z => absurd z nd9.1, fun z => by omega⟩
          · rw [hh_un xk, ← (W.1 9 (by omega)).2 x, e, List.mem_cons]
            exact ⟨Or.inr, fun z => z.elim (fun w => absurd w xk) id⟩
        · simp only [if_neg j9]
          refine ⟨(W.1 j hj).1, fun x => ?_⟩
          by_cases xk : x = k
          · subst xk; rw [hh_us]; exact ⟨fun z => absurd z (kn j (by omega)), fun z => absurd z.2.symm jh⟩
          · rw [hh_un xk]; exact (W.1 j hj).2 x
    · intro j hj
      by_cases jh : j = h
      · subst jh
        simp only [if_true]
        refine ⟨lc_c.mpr ⟨f1, ?_⟩, fun x hx => ?_⟩
        · rw [pk_us]
          exact lc_upd _ _ (kn j hj) (W.2.1 j hj).1
        · by_cases z : L j = []
          · rw [z] at hx
            have : k = x := by simpa using hx
            rw [c1 z, this]
          · rw [List.getLast?_cons_of_ne_nil z] at hx
            rw [c2 z]
            exact (W.2.1 j hj).2 x hx
      · have j9 : j ≠ 9 := by omega
        simp only [if_neg jh, if_neg j9]
        rw [f2 j jh, c3 j jh]
        exact ⟨lc_upd _ _ (kn j hj) (W.2.1 j hj).1, (W.2.1 j hj).2⟩
    · have h9 : (9 : Nat) ≠ h := by omega
      simp only [if_neg h9, if_true]
      exact lc_upd _ _ nd9.1 l9.2
    · intro j hj
      by_cases jk : j = k
      · subst jk
        rw [hh_us, hh_us, k1, g1]
        exact ⟨by omega, fun _ => ⟨rfl, rfl, by omega, by omega⟩⟩
      · rw [hh_un jk, hh_un jk, k2 j jk, g2 j jk]
        exact W.2.2.2.1 j hj
    · intro c
      have a := W.2.2.2.2.1 c
      by_cases ck : c / 4 = k
      · rw [ck, hh_us, hh_us]
        rw [ck] at a
        constructor
        · intro z
          rcases z with z | z
          · have := a.mp z; omega
          · have := m.1; omega
        · intro z; exact Or.inr (by omega)
      · rw [hh_un ck, hh_un ck]
        constructor
        · intro z
          rcases z with z | z
          · exact a.mp z
          · rw [z] at ck; exact absurd e1 ck
        · intro z; exact Or.inl (a.mpr z)
    · intro c z
      by_cases q : c = 4 * k
      · rw [q, hh_us, e1, hh_us]
      · rw [hh_un q]
        have u := z.elim id (fun w => absurd w q)
        have u' := (W.2.2.2.2.1 c).mp u
        have ck : c / 4 ≠ k := fun w => by rw [w] at u'; omega
        rw [hh_un ck]
        exact W.2.2.2.2.2 c u
theorem cs_splice (W : hh_CW ch fl L fc lc kh kf nx fr us hp) {a b : Nat} (ha : a ≤ 8) (hb : b ≤ 8) (hab : a ≠ b) {fc' lc' kh' nx' : Nat → Int32} {hp' : Nat → Nat}
    (f1 : fc' a = -1) (f2 : L b = [] → fc' b = fc a) (f3 : L b ≠ [] → fc' b = fc b) (f4 : ∀ j, j ≠ a → j ≠ b → fc' j = fc j)
    (c1 : L a ≠ [] → lc' b = lc a) (c2 : L a = [] → lc' b = lc b) (c3 : ∀ j, j ≠ a → j ≠ b → lc' j = lc j)
    (k1 : ∀ k, k ∈ L a → kh' k = nI b) (k2 : ∀ k, k ∉ L a → kh' k = kh k)
    (n1 : L a = [] ∨ L b = [] → nx' = nx) (n2 : L a ≠ [] → ∀ k, (L b).getLast? = some k → nx' = upd nx k (fc a))
    (p1 : ∀ c, us c → hp c = a → hp' c = b) (p2 : ∀ c, us c → hp c ≠ a → hp' c = hp c) :
    hh_CS fc' lc' kh' kf nx' fr us hp' := by
  have mem : ∀ j x, j ≤ 9 → (x ∈ L j ↔ x < 128 ∧ ch x = j) := fun j x hj => (W.1 j hj).2 x
  have dis : ∀ i j x, i ≤ 9 → j ≤ 9 → i ≠ j → x ∈ L i → x ∉ L j := fun i j x hi hj hij hx hy => by
    have p := (mem i x hi).mp hx
    have q := (mem j x hj).mp hy
    exact hij (p.2.symm.trans q.2)
  have keep : ∀ j x, j ≤ 9 → j ≠ b → hh_LC nx x (L j) → hh_LC nx' x (L j) := by
    intro j x hj hjb h
    by_cases za : L a = []
    · rw [n1 (Or.inl za)]; exact h
    · by_cases zb : L b = []
      · rw [n1 (Or.inr zb)]; exact h
      · obtain ⟨k, hk⟩ := lc_last (L b) zb
        rw [n2 za k hk]
        exact lc_upd _ _ (dis b j k (by omega) hj (fun w => hjb w.symm) (List.mem_of_getLast? hk)) h
  refine ⟨fun j => if ch j = a then b else ch j, fl, fun j => if j = a then [] else if j = b then L b ++ L a else L j, ?_, ?_, ?_, ?_, ?_, ?_⟩
  · intro j hj
    by_cases ja : j = a
    · subst ja
      simp only [if_true]
      refine ⟨List.nodup_nil, fun x => ⟨fun z => by simp at z, fun z => ?_⟩⟩
      by_cases q : ch x = j
      · rw [if_pos q] at z; exact absurd z.2.symm hab
      · rw [if_neg q] at z; exact absurd z.2 q
    · simp only [if_neg ja]
      by_cases jb : j = b
      · subst jb
        simp only [if_true]
        refine ⟨List.nodup_append.mpr ⟨(W.1 j hj).1, (W.1 a (by omega)).1, fun x hx y hy exy => ?_⟩, fun x => ?_⟩
        · subst exy; exact dis j a x hj (by omega) ja hx hy
        · rw [List.mem_append, mem j x hj, mem a x (by omega)]
          by_cases q : ch x = a
          · rw [if_pos q]
            exact ⟨fun z => ⟨z.elim (·.1) (·.1), rfl⟩, fun z => Or.inr ⟨z.1, q⟩⟩
          · rw [if_neg q]
            exact ⟨fun z => z.elim id (fun w => absurd w.2 q), Or.inl⟩
      · simp only [if_neg jb]
        refine ⟨(W.1 j hj).1, fun x => ?_⟩
        rw [mem j x hj]
        by_cases q : ch x = a
        · rw [if_pos q]
          exact ⟨fun z => absurd (z.2.symm.trans q) ja, fun z => absurd z.2.symm jb⟩
        · rw [if_neg q]
  · intro j hj
    by_cases ja : j = a
    · subst ja
      simp only [if_true]
      exact ⟨lc_n.mpr f1, fun k hk => by simp at hk⟩
    · simp only [if_neg ja]
      by_cases jb : j = b
      · subst jb
        simp only [if_true]
        by_cases za : L a = []
        · rw [za, List.append_nil, c2 za]
          have ef : fc' j = fc j := by
            by_cases zb : L j = []
            · rw [f2 zb]
              have A := (W.2.1 a ha).1
              have B := (W.2.1 j hj).1
              rw [za] at A
              rw [zb] at B
              rw [lc_n.mp A, lc_n.mp B]
            · exact f3 zb
          rw [ef, n1 (Or.inl za)]
          exact W.2.1 j hj
        · by_cases zb : L j = []
          · rw [zb, List.nil_append, f2 zb, c1 za, n1 (Or.inr zb)]
            exact W.2.1 a ha
          · obtain ⟨k, hk⟩ := lc_last (L j) zb
            rw [f3 zb, c1 za, n2 za k hk]
            refine ⟨lc_app (W.2.1 a ha).1 (dis j a k (by omega) (by omega) ja (List.mem_of_getLast? hk)) _ _ (W.1 j (by omega)).1 hk (W.2.1 j hj).1, fun x hx => ?_⟩
            refine (W.2.1 a ha).2 x ?_
            obtain ⟨k2, hk2⟩ := lc_last (L a) za
            rw [List.getLast?_append, hk2] at hx
            rw [hk2]
            simpa using hx
      · simp only [if_neg jb]
        rw [f4 j ja jb, c3 j ja jb]
        exact ⟨keep j _ (by omega) jb (W.2.1 j hj).1, (W.2.1 j hj).2⟩
  · have h1 : (9 : Nat) ≠ a := by omega
    have h2 : (9 : Nat) ≠ b := by omega
    simp only [if_neg h1, if_neg h2]
    exact keep 9 _ (by omega) h2 W.2.2.1
  · intro k hk
    have w := W.2.2.2.1 k hk
    by_cases q : ch k = a
    · simp only [if_pos q]
      have w2 := w.2 (by omega)
      exact ⟨by omega, fun _ => ⟨k1 k ((mem a k (by omega)).mpr ⟨hk, q⟩), w2.2⟩⟩
    · simp only [if_neg q]
      rw [k2 k (fun z => q ((mem a k (by omega)).mp z).2)]
      exact w
  · intro c
    rw [W.2.2.2.2.1 c]
    by_cases q : ch (c / 4) = a
    · simp only [if_pos q]
      exact ⟨fun z => ⟨z.1, by omega, z.2.2⟩, fun z => ⟨z.1, by omega, z.2.2⟩⟩
    · simp only [if_neg q]
  · intro c u
    have e := W.2.2.2.2.2 c u
    by_cases q : ch (c / 4) = a
    · simp only [if_pos q]; exact p1 c u (e.trans q)
    · simp only [if_neg q]; rw [p2 c u (fun z => q (e.symm.trans z)), e]
theorem cs_flimbo (W : hh_CW ch fl L fc lc kh kf nx fr us hp) {fc' lc' nx' : Nat → Int32} {fr' : Int32}
    (f1 : fc' 8 = -1) (f4 : ∀ j, j ≠ 8 → fc' j = fc j) (c3 : ∀ j, j ≠ 8 → lc' j = lc j)
    (n1 : L 8 = [] → nx' = nx ∧ fr' = fr) (n2 : ∀ k, (L 8).getLast? = some k → nx' = upd nx k fr ∧ fr' = fc 8) :
    hh_CS fc' lc' kh kf nx' fr' (fun c => us c ∧ hp c ≠ 8) hp := by
  have mem : ∀ j x, j ≤ 9 → (x ∈ L j ↔ x < 128 ∧ ch x = j) := fun j x hj => (W.1 j hj).2 x
  have dis : ∀ i j x, i ≤ 9 → j ≤ 9 → i ≠ j → x ∈ L i → x ∉ L j := fun i j x hi hj hij hx hy => by
    have p := (mem i x hi).mp hx
    have q := (mem j x hj).mp hy
    exact hij (p.2.symm.trans q.2)
  have keep : ∀ j x, j ≤ 9 → j ≠ 8 → hh_LC nx x (L j) → hh_LC nx' x (L j) := by
    intro j x hj hjb h
    by_cases zb : L 8 = []
    · rw [(n1 zb).1]; exact h
    · obtain ⟨k, hk⟩ := lc_last (L 8) zb
      rw [(n2 k hk).1]
      exact lc_upd _ _ (dis 8 j k (by omega) hj (fun w => hjb w.symm) (List.mem_of_getLast? hk)) h
  refine ⟨fun j => if ch j = 8 then 9 else ch j, fl, fun j => if j = 8 then [] else if j = 9 then L 8 ++ L 9 else L j, ?_, ?_, ?_, ?_, ?_, ?_⟩
  · intro j hj
    by_cases ja : j = 8
    · subst ja
      simp only [if_true]
      refine ⟨List.nodup_nil, fun x => ⟨fun z => by simp at z, fun z => ?_⟩⟩
      by_cases q : ch x = 8
      · rw [if_pos q] at z; exact absurd z.2 (by decide)
      · rw [if_neg q] at z; exact absurd z.2 q
    · simp only [if_neg ja]
      by_cases jb : j = 9
      · subst jb
        simp only [if_true]
        refine ⟨List.nodup_append.mpr ⟨(W.1 8 (by omega)).1, (W.1 9 hj).1, fun x hx y hy exy => ?_⟩, fun x => ?_⟩
        · subst exy; exact dis 8 9 x (by omega) hj (by decide) hx hy
        · rw [List.mem_append, mem 9 x hj, mem 8 x (by omega)]
          by_cases q : ch x = 8
          · rw [if_pos q]
            exact ⟨fun z => ⟨z.elim (·.1) (·.1), rfl⟩, fun z => Or.inl ⟨z.1, q⟩⟩
          · rw [if_neg q]
            exact ⟨fun z => z.elim (fun w => absurd w.2 q) id, Or.inr⟩
      · simp only [if_neg jb]
        refine ⟨(W.1 j hj).1, fun x => ?_⟩
        rw [mem j x hj]
        by_cases q : ch x = 8
        · rw [if_pos q]
          exact ⟨fun z => absurd (z.2.symm.trans q) ja, fun z => absurd z.2.symm jb⟩
        · rw [if_neg q]
  · intro j hj
    by_cases ja : j = 8
    · subst ja
      simp only [if_true]
      exact ⟨lc_n.mpr f1, fun k hk => by simp at hk⟩
    · have j9 : j ≠ 9 := by omega
      simp only [if_neg ja, if_neg j9]
      rw [f4 j ja, c3 j ja]
      exact ⟨keep j _ (by omega) ja (W.2.1 j hj).1, (W.2.1 j hj).2⟩
  · have h1 : (9 : Nat) ≠ 8 := by decide
    simp only [if_neg h1, if_true]
    by_cases zb : L 8 = []
    · rw [zb, List.nil_append, (n1 zb).1, (n1 zb).2]
      exact W.2.2.1
    · obtain ⟨k, hk⟩ := lc_last (L 8) zb
      rw [(n2 k hk).1, (n2 k hk).2]
      exact lc_app W.2.2.1 (dis 8 9 k (by omega) (by omega) (by decide) (List.mem_of_getLast? hk)) _ _ (W.1 8 (by omega)).1 hk (W.2.1 8 (by omega)).1
  · intro k hk
    have w := W.2.2.2.1 k hk
    by_cases q : ch k = 8
    · simp only [if_pos q]
      exact ⟨by omega, fun z => absurd z (by decide)⟩
    · simp only [if_neg q]
      exact w
  · intro c
    by_cases q : ch (c / 4) = 8
    · simp only [if_pos q]
      exact ⟨fun z => absurd ((W.2.2.2.2.2 c z.1).trans q) z.2, fun z => absurd z.2.1 (by decide)⟩
    · simp only [if_neg q]
      rw [W.2.2.2.2.1 c]
      exact ⟨fun z => z.1, fun z => ⟨z, fun y => q ((W.2.2.2.2.2 c ((W.2.2.2.2.1 c).mpr z)).symm.trans y)⟩⟩
  · intro c u
    have e := W.2.2.2.2.2 c u.1
    by_cases q : ch (c / 4) = 8
    · exact absurd (e.trans q) u.2
    · simp only [if_neg q]; exact e
theorem cs_clear (W : hh_CS fc lc kh kf nx fr us hp) {h : Nat} (hh : h ≤ 8) (hu : ∀ c, us c → hp c ≠ h) {fc' lc' : Nat → Int32}
    (f1 : fc' h = -1) (f4 : ∀ j, j ≠ h → fc' j = fc j) (c3 : ∀ j, j ≠ h → lc' j = lc j) : hh_CS fc' lc' kh kf nx fr us hp := by
  obtain ⟨ch, fl, L, W⟩ := W
  have e := cs_empty W hh hu
  refine ⟨ch, fl, L, W.1, ?_, W.2.2⟩
  intro j hj
  by_cases jh : j = h
  · subst jh
    rw [e]
    exact ⟨lc_n.mpr f1, fun k hk => by simp at hk⟩
  · rw [f4 j jh, c3 j jh]
    exact W.2.1 j hj
end
theorem lc_range {nx : Nat → Int32} (h : ∀ k, k < 128 → nx k = if k + 1 < 128 then nI (k + 1) else -1) : ∀ d i : Nat, i + d = 128 → hh_LC nx (if i < 128 then nI i else -1) (List.range' i d) := by
  intro d
  induction d with
  | zero => intro i hi; rw [if_neg (by omega)]; exact rfl
  | succ d ih =>
    intro i hi
    have := ih (i + 1) (by omega)
    rw [if_pos (show i < 128 by omega)]
    show hh_LC nx (nI i) (i :: List.range' (i + 1) d)
    refine lc_c.mpr ⟨rfl, ?_⟩
    rw [h i (by omega)]
    exact this
theorem cs_init {fc lc kh kf nx : Nat → Int32} {hp : Nat → Nat} (hf : ∀ j, j ≤ 8 → fc j = -1) (h : ∀ k, k < 128 → nx k = if k + 1 < 128 then nI (k + 1) else -1) :
    hh_CS fc lc kh kf nx 0 (fun _ => False) hp := by
  refine ⟨fun _ => 9, fun _ => 0, fun j => if j = 9 then List.range' 0 128 else [], ?_, ?_, ?_, ?_, ?_, ?_⟩
  · intro j hj
    by_cases j9 : j = 9
    · subst j9
      simp only [if_true]
      refine ⟨List.nodup_range', fun k => ?_⟩
      rw [List.mem_range'_1]
      exact ⟨fun z => ⟨by omega, by trivial⟩, fun z => ⟨by omega, by omega⟩⟩
    · simp only [if_neg j9]
      exact ⟨List.nodup_nil, fun k => ⟨fun z => by simp at z, fun z => absurd z.2.symm j9⟩⟩
  · intro j hj
    have j9 : j ≠ 9 := by omega
    simp only [if_neg j9]
    exact ⟨lc_n.mpr (hf j hj), fun k hk => by simp at hk⟩
  · simp only [if_true]
    have := lc_range h 128 0 rfl
    exact this
  · intro k hk; exact ⟨Nat.le_refl _, fun z => absurd z (Nat.lt_irrefl 9)⟩
  · intro c; exact ⟨fun z => z.elim, fun z => absurd z.2.1 (Nat.lt_irrefl 9)⟩
  · intro c z; exact z.elim
end
section
/-! cells: used ones (us), their heap (hp), their object (ob), an object's home (cl) -/
abbrev HG : Type := (Nat → Prop) × (Nat → Nat) × (Nat → Nat) × (Nat → Nat)
def gg_us (g : HG) : Nat → Prop := g.1
def gg_hp (g : HG) : Nat → Nat := g.2.1
def gg_ob (g : HG) : Nat → Nat := g.2.2.1
def gg_cl (g : HG) : Nat → Nat := g.2.2.2
def gg_add (g : HG) (c h o : Nat) : HG := (fun x => gg_us g x ∨ x = c, hh_up (gg_hp g) c h, hh_up (gg_ob g) c o, hh_up (gg_cl g) o c)
theorem ga_us {g : HG} {c h o x : Nat} : gg_us (gg_add g c h o) x ↔ gg_us g x ∨ x = c := Iff.rfl
theorem ga_hp {g : HG} {c h o : Nat} : gg_hp (gg_add g c h o) = hh_up (gg_hp g) c h := rfl
theorem ga_ob {g : HG} {c h o : Nat} : gg_ob (gg_add g c h o) = hh_up (gg_ob g) c o := rfl
theorem ga_cl {g : HG} {c h o : Nat} : gg_cl (gg_add g c h o) = hh_up (gg_cl g) o c := rfl
def hh_Rf (g : HG) (an : Nat → Nat → Prop) (x : Int32) (o h : Nat) : Prop :=
  (x = -1 ∧ o = 0) ∨ ∃ c, x = nI c ∧ gg_us g c ∧ gg_ob g c = o ∧ an (gg_hp g c) h
def hh_CH (hs : Nat → Nat) (g : HG) (fw : Nat → Int32) (nd : Nat → Prop) (an : Nat → Nat → Prop) (bd : Nat → Nat → Nat) (th : Nat → Prop) (ow : Nat → Nat) : Prop :=
  (∀ c, gg_us g c → c < 512 ∧ th (gg_ob g c) ∧ hs c ≤ bd (gg_hp g c) (ow (gg_ob g c)) ∧ nd (gg_hp g c)) ∧
  (∀ c, gg_us g c → (hs c = 0 ∧ fw c = -1) ∨ ∃ c', fw c = nI c' ∧ gg_us g c' ∧ gg_ob g c' = gg_ob g c ∧ hs c = hs c' + 1 ∧ an (gg_hp g c') (gg_hp g c)) ∧
  (∀ o, th o → 1 ≤ o ∧ o < 25 ∧ gg_us g (gg_cl g o) ∧ gg_ob g (gg_cl g o) = o ∧ hs (gg_cl g o) = 0 ∧ gg_hp g (gg_cl g o) = ow o) ∧
  (∀ c c', gg_us g c → gg_us g c' → gg_ob g c = gg_ob g c' → hs c = hs c' → c = c')
def hh_CM (g : HG) (fw : Nat → Int32) (nd : Nat → Prop) (an : Nat → Nat → Prop) (bd : Nat → Nat → Nat) (th : Nat → Prop) (ow : Nat → Nat) : Prop :=
  ∃ hs : Nat → Nat, hh_CH hs g fw nd an bd th ow
def hh_Ext (g g' : HG) : Prop := ∀ c, gg_us g c → gg_us g' c ∧ gg_hp g' c = gg_hp g c ∧ gg_ob g' c = gg_ob g c
theorem ext_refl (g : HG) : hh_Ext g g := fun c h => ⟨h, rfl, rfl⟩
theorem ext_trans {g g' g'' : HG} (h : hh_Ext g g') (h2 : hh_Ext g' g'') : hh_Ext g g'' := fun c u =>
  ⟨(h2 c (h c u).1).1, ((h2 c (h c u).1).2.1).trans (h c u).2.1, ((h2 c (h c u).1).2.2).trans (h c u).2.2⟩
theorem ext_add {g : HG} {c h o : Nat} (hc : ¬ gg_us g c) : hh_Ext g (gg_add g c h o) := fun x u => by
  have e : x ≠ c := fun z => hc (z ▸ u)
  exact ⟨Or.inl u, by rw [ga_hp, hh_un e], by rw [ga_ob, hh_un e]⟩
theorem rf_ext {g g' : HG} {an : Nat → Nat → Prop} {x : Int32} {o h : Nat} (e : hh_Ext g g') (R : hh_Rf g an x o h) : hh_Rf g' an x o h := by
  rcases R with R | ⟨c, e1, u, e2, a⟩
  · exact Or.inl R
  · have z := e c u
    exact Or.inr ⟨c, e1, z.1, z.2.2.trans e2, by rw [z.2.1]; exact a⟩
theorem rf_up {g : HG} {an : Nat → Nat → Prop} (tr : ∀ a b c, an a b → an b c → an a c) {x : Int32} {o h h' : Nat} (R : hh_Rf g an x o h) (a : an h h') : hh_Rf g an x o h' := by
  rcases R with R | ⟨c, e1, u, e2, b⟩
  · exact Or.inl R
  · exact Or.inr ⟨c, e1, u, e2, tr _ _ _ b a⟩
section
variable {g : HG} {fw : Nat → Int32} {nd : Nat → Prop} {an : Nat → Nat → Prop} {bd : Nat → Nat → Nat} {th : Nat → Prop} {ow : Nat → Nat} {hs : Nat → Nat}
theorem ch_home (C : hh_CH hs g fw nd an bd th ow) {c : Nat} (u : gg_us g c) (h : hs c = 0) : c = gg_cl g (gg_ob g c) := by
  have a := C.2.2.1 (gg_ob g c) (C.1 c u).2.1
  exact C.2.2.2 c _ u a.2.2.1 a.2.2.2.1.symm (h.trans a.2.2.2.2.1.symm)
theorem ch_own (C : hh_CH hs g fw nd an bd th ow) (rf : ∀ a, an a a) (tr : ∀ a b c, an a b → an b c → an a c) : ∀ (n c : Nat), hs c = n → gg_us g c → an (ow (gg_ob g c)) (gg_hp g c) := by
  intro n
  induction n with
  | zero =>
    intro c h u
    have e := ch_home C u h
    have a := C.2.2.1 (gg_ob g c) (C.1 c u).2.1
    rw [← a.2.2.2.2.2, ← e]
    exact rf _
  | succ n ih =>
    intro c h u
    rcases C.2.1 c u with ⟨z, _⟩ | ⟨c', _, u', e, hc, a⟩
    · omega
    · have := ih c' (by omega) u'
      rw [e] at this
      exact tr _ _ _ this a
theorem cm_own (C : hh_CM g fw nd an bd th ow) (rf : ∀ a, an a a) (tr : ∀ a b c, an a b → an b c → an a c) {c : Nat} (u : gg_us g c) : an (ow (gg_ob g c)) (gg_hp g c) := by
  obtain ⟨hs, C⟩ := C
  exact ch_own C rf tr _ c rfl u
theorem cm_th (C : hh_CM g fw nd an bd th ow) {o : Nat} (h : th o) : 1 ≤ o ∧ o < 25 ∧ gg_us g (gg_cl g o) ∧ gg_ob g (gg_cl g o) = o ∧ gg_hp g (gg_cl g o) = ow o := by
  obtain ⟨hs, C⟩ := C
  have a := C.2.2.1 o h
  exact ⟨a.1, a.2.1, a.2.2.1, a.2.2.2.1, a.2.2.2.2.2⟩
theorem cm_us (C : hh_CM g fw nd an bd th ow) {c : Nat} (u : gg_us g c) : c < 512 ∧ th (gg_ob g c) ∧ nd (gg_hp g c) := by
  obtain ⟨hs, C⟩ := C
  have a := C.1 c u
  exact ⟨a.1, a.2.1, a.2.2.2⟩
theorem cm_0 (C : hh_CM g fw nd an bd th ow) : ¬ th 0 := fun h => by have := (cm_th C h).1; omega
theorem cm_cl (C : hh_CM g fw nd an bd th ow) {o p : Nat} (h : th o) (h2 : th p) (e : gg_cl g o = gg_cl g p) : o = p := by
  have a := cm_th C h
  have b := cm_th C h2
  rw [← a.2.2.2.1, ← b.2.2.2.1, e]
theorem cm_512 (C : hh_CM g fw nd an bd th ow) {o : Nat} (h : th o) : gg_cl g o < 512 := (cm_us C (cm_th C h).2.2.1).1
theorem rf_th (C : hh_CM g fw nd an bd th ow) (rf : ∀ a, an a a) (tr : ∀ a b c, an a b → an b c → an a c) {x : Int32} {o h : Nat} (R : hh_Rf g an x o h) (ho : o ≠ 0) : th o ∧ an (ow o) h := by
  rcases R with R | ⟨c, e1, u, e2, b⟩
  · exact absurd R.2 ho
  · subst e2
    exact ⟨(cm_us C u).2.1, tr _ _ _ (cm_own C rf tr u) b⟩
theorem rf_home (C : hh_CM g fw nd an bd th ow) {o h : Nat} (t : th o) (a : an (ow o) h) : hh_Rf g an (nI (gg_cl g o)) o h := by
  have b := cm_th C t
  exact Or.inr ⟨_, rfl, b.2.2.1, b.2.2.2.1, by rw [b.2.2.2.2]; exact a⟩
/-- a free chunk is left: 128 used ones would be 128 pairs of object and hops -/
theorem cm_pig (C : hh_CM g fw nd an bd th ow) (hb : ∀ a b, bd a b ≤ 4) : ∃ k, k < 128 ∧ ¬ gg_us g (4 * k) := by
  obtain ⟨hs, C⟩ := C
  refine Classical.byContradiction fun z => ?_
  have all : ∀ k, k < 128 → gg_us g (4 * k) := fun k hk => Classical.byContradiction fun y => z ⟨k, hk, y⟩
  have r : ∀ k, k < 128 → gg_ob g (4 * k) < 25 ∧ hs (4 * k) ≤ 4 := fun k hk => by
    have a := C.1 _ (all k hk)
    exact ⟨(C.2.2.1 _ a.2.1).2.1, Nat.le_trans a.2.2.1 (hb _ _)⟩
  have := hh_pig 125 128 (fun k => 5 * gg_ob g (4 * k) + hs (4 * k)) (by
    intro k hk
    have := r k hk
    show 5 * gg_ob g (4 * k) + hs (4 * k) < 125
    omega) (by
    intro i j hi hj e
    have e' : 5 * gg_ob g (4 * i) + hs (4 * i) = 5 * gg_ob g (4 * j) + hs (4 * j) := e
    have a := r i hi
    have b := r j hj
    have := C.2.2.2 _ _ (all i hi) (all j hj) (by omega) (by omega)
    omega)
  omega
theorem cm_promote (C : hh_CM g fw nd an bd th ow) {o c' h : Nat} (to : th o) (hc : ¬ gg_us g c') (h5 : c' < 512) (nh : nd h) (ah : an h (ow o))
    (hb : ∀ x, gg_us g x → gg_ob g x = o → bd (gg_hp g x) (ow o) + 1 ≤ bd (gg_hp g x) h)
    {fw' : Nat → Int32} (f1 : fw' c' = -1) (f2 : fw' (gg_cl g o) = nI c') (f3 : ∀ x, x ≠ c' → x ≠ gg_cl g o → fw' x = fw x) :
    hh_CM (gg_add g c' h o) fw' nd an bd th (hh_up ow o h) := by
  obtain ⟨hs, C⟩ := C
  have ne : ∀ x, gg_us g x → x ≠ c' := fun x u z => hc (z ▸ u)
  have co := C.2.2.1 o to
  have old : ∀ x, gg_us g x → gg_hp (gg_add g c' h o) x = gg_hp g x ∧ gg_ob (gg_add g c' h o) x = gg_ob g x := fun x u => (ext_add hc x u).2
  have n1 : gg_hp (gg_add g c' h o) c' = h := by rw [ga_hp, hh_us]
  have n2 : gg_ob (gg_add g c' h o) c' = o := by rw [ga_ob, hh_us]
  refine ⟨fun x => if x = c' then 0 else if gg_ob g x = o then hs x + 1 else hs x, ?_, ?_, ?_, ?_⟩
  · intro x u
    rcases u with u | rfl
    · have a := C.1 x u
      rw [(old x u).1, (old x u).2]
      simp only [if_neg (ne x u)]
      refine ⟨a.1, a.2.1, ?_, a.2.2.2⟩
      by_cases q : gg_ob g x = o
      · rw [if_pos q, q, hh_us]
        have := hb x u q
        have := a.2.2.1
        rw [q] at this
        omega
      · rw [if_neg q, hh_un q]; exact a.2.2.1
    · rw [n1, n2]
      simp only [if_true]
      exact ⟨h5, to, Nat.zero_le _, nh⟩
  · intro x u
    rcases u with u | rfl
    · rw [(old x u).1, (old x u).2]
      simp only [if_neg (ne x u)]
      by_cases q : x = gg_cl g o
      · refine Or.inr ⟨c', by rw [q]; exact f2, Or.inr rfl, ?_, ?_, ?_⟩
        · rw [n2, q, co.2.2.2.1]
        · simp only [if_true]
          rw [q, if_pos co.2.2.2.1, co.2.2.2.2.1]
        · rw [n1, q, co.2.2.2.2.2]; exact ah
      · rw [f3 x (ne x u) q]
        rcases C.2.1 x u with ⟨z, f⟩ | ⟨y, f, u', e, hc', a⟩
        · left
          refine ⟨?_, f⟩
          have e := ch_home C u z
          have : gg_ob g x ≠ o := fun w => q (by rw [e, w])
          rw [if_neg this, z]
        · right
          refine ⟨y, f, Or.inl u', ?_, ?_, ?_⟩
          · rw [(old y u').2, e]
          · simp only [if_neg (ne y u')]
            rw [e]
            by_cases w : gg_ob g x = o
            · rw [if_pos w, if_pos w, hc']
            · rw [if_neg w, if_neg w, hc']
          · rw [(old y u').1]; exact a
    · left
      simp only [if_true]
      exact ⟨trivial, f1⟩
  · intro p hp
    have a := C.2.2.1 p hp
    refine ⟨a.1, a.2.1, ?_⟩
    by_cases q : p = o
    · subst q
      rw [ga_cl, hh_us, n2, n1, hh_us]
      simp only [if_true]
      exact ⟨Or.inr rfl, trivial, trivial, trivial⟩
    · rw [ga_cl, hh_un q, (old _ a.2.2.1).1, (old _ a.2.2.1).2, hh_un q]
      simp only [if_neg (ne _ a.2.2.1)]
      refine ⟨Or.inl a.2.2.1, a.2.2.2.1, ?_, a.2.2.2.2.2⟩
      rw [if_neg (by rw [a.2.2.2.1]; exact q)]
      exact a.2.2.2.2.1
  · intro x y ux uy e eh
    rcases ux with ux | rfl
    · rcases uy with uy | rfl
      · rw [(old x ux).2, (old y uy).2] at e
        simp only [if_neg (ne x ux), if_neg (ne y uy)] at eh
        rw [e] at eh
        refine C.2.2.2 x y ux uy e ?_
        by_cases w : gg_ob g y = o
        · rw [if_pos w, if_pos w] at eh; omega
        · rw [if_neg w, if_neg w] at eh; exact eh
      · rw [(old x ux).2, n2] at e
        simp only [if_neg (ne x ux), if_true] at eh
        rw [if_pos e] at eh
        omega
    · rcases uy with uy | rfl
      · rw [(old y uy).2, n2] at e
        simp only [if_neg (ne y uy), if_true] at eh
        rw [if_pos e.symm] at eh
        omega
      · rfl
theorem cm_alloc (C : hh_CM g fw nd an bd th ow) {o c' h : Nat} (to : ¬ th o) (o1 : 1 ≤ o) (o2 : o < 25) (hc : ¬ gg_us g c') (h5 : c' < 512) (nh : nd h)
    {fw' : Nat → Int32} (f1 : fw' c' = -1) (f3 : ∀ x, x ≠ c' → fw' x = fw x) {th' : Nat → Prop} (t1 : ∀ p, th' p ↔ th p ∨ p = o) :
    hh_CM (gg_add g c' h o) fw' nd an bd th' (hh_up ow o h) := by
  obtain ⟨hs, C⟩ := C
  have ne : ∀ x, gg_us g x → x ≠ c' := fun x u z => hc (z ▸ u)
  have neo : ∀ x, gg_us g x → gg_ob g x ≠ o := fun x u z => to (z ▸ (C.1 x u).2.1)
  have old : ∀ x, gg_us g x → gg_hp (gg_add g c' h o) x = gg_hp g x ∧ gg_ob (gg_add g c' h o) x = gg_ob g x := fun x u => (ext_add hc x u).2
  have n1 : gg_hp (gg_add g c' h o) c' = h := by rw [ga_hp, hh_us]
  have n2 : gg_ob (gg_add g c' h o) c' = o := by rw [ga_ob, hh_us]
  refine ⟨hh_up hs c' 0, ?_, ?_, ?_, ?_⟩
  · intro x u
    rcases u with u | rfl
    · have a := C.1 x u
      rw [(old x u).1, (old x u).2, hh_un (ne x u), hh_un (neo x u)]
      exact ⟨a.1, (t1 _).mpr (Or.inl a.2.1), a.2.2⟩
    · rw [n1, n2, hh_us]
      exact ⟨h5, (t1 _).mpr (Or.inr rfl), Nat.zero_le _, nh⟩
  · intro x u
    rcases u with u | rfl
    · rw [(old x u).1, (old x u).2, hh_un (ne x u), f3 x (ne x u)]
      rcases C.2.1 x u with z | ⟨y, f, u', e, hc', a⟩
      · exact Or.inl z
      · refine Or.inr ⟨y, f, Or.inl u', ?_, ?_, ?_⟩
        · rw [(old y u').2, e]
        · rw [hh_un (ne y u'), hc']
        · rw [(old y u').1]; exact a
    · left
      exact ⟨hh_us, f1⟩
  · intro p hp
    by_cases q : p = o
    · subst q
      rw [ga_cl, hh_us, n2, n1, hh_us, hh_us]
      exact ⟨o1, o2, Or.inr rfl, rfl, rfl, rfl⟩
    · have hp' := ((t1 p).mp hp).elim id (fun w => absurd w q)
      have a := C.2.2.1 p hp'
      rw [ga_cl, hh_un q, (old _ a.2.2.1).1, (old _ a.2.2.1).2, hh_un q, hh_un (ne _ a.2.2.1)]
      exact ⟨a.1, a.2.1, Or.inl a.2.2.1, a.2.2.2⟩
  · intro x y ux uy e eh
    rcases ux with ux | rfl
    · rcases uy with uy | rfl
      · rw [(old x ux).2, (old y uy).2] at e
        rw [hh_un (ne x ux), hh_un (ne y uy)] at eh
        exact C.2.2.2 x y ux uy e eh
      · rw [(old x ux).2, n2] at e
        exact absurd e (neo x ux)
    · rcases uy with uy | rfl
      · rw [(old y uy).2, n2] at e
        exact absurd e.symm (neo y uy)
      · rfl
theorem cm_map (C : hh_CM g fw nd an bd th ow) {us' : Nat → Prop} {hp' : Nat → Nat} {nd' : Nat → Prop} {an' : Nat → Nat → Prop} {bd' : Nat → Nat → Nat} {th' : Nat → Prop} {ow' : Nat → Nat}
    (hA : ∀ c, us' c → gg_us g c ∧ th' (gg_ob g c) ∧ nd' (hp' c) ∧ ∀ n, n ≤ bd (gg_hp g c) (ow (gg_ob g c)) → n ≤ bd' (hp' c) (ow' (gg_ob g c)))
    (hB : ∀ c c', us' c → gg_us g c' → gg_ob g c' = gg_ob g c → an (gg_hp g c') (gg_hp g c) → us' c' ∧ an' (hp' c') (hp' c))
    (hC : ∀ o, th' o → th o ∧ us' (gg_cl g o) ∧ hp' (gg_cl g o) = ow' o) :
    hh_CM (us', hp', gg_ob g, gg_cl g) fw nd' an' bd' th' ow' := by
  obtain ⟨hs, C⟩ := C
  refine ⟨hs, ?_, ?_, ?_, ?_⟩
  · intro c u
    have a := hA c u
    have b := C.1 c a.1
    exact ⟨b.1, a.2.1, a.2.2.2 _ b.2.2.1, a.2.2.1⟩
  · intro c u
    have a := hA c u
    rcases C.2.1 c a.1 with z | ⟨y, f, u', e, hc', b⟩
    · exact Or.inl z
    · have w := hB c y u u' e b
      exact Or.inr ⟨y, f, w.1, e, hc', w.2⟩
  · intro o ho
    have a := hC o ho
    have b := C.2.2.1 o a.1
    exact ⟨b.1, b.2.1, a.2.1, b.2.2.2.1, b.2.2.2.2.1, a.2.2⟩
  · intro x y ux uy e eh
    exact C.2.2.2 x y (hA x ux).1 (hA y uy).1 e eh
theorem cm_fw (C : hh_CM g fw nd an bd th ow) {fw' : Nat → Int32} {ow' : Nat → Nat} (h : ∀ c, gg_us g c → fw' c = fw c) (h2 : ∀ o, th o → ow' o = ow o) : hh_CM g fw' nd an bd th ow' := by
  obtain ⟨hs, C⟩ := C
  refine ⟨hs, ?_, ?_, ?_, C.2.2.2⟩
  · intro c u
    have a := C.1 c u
    rw [h2 _ a.2.1]
    exact a
  · intro c u
    rw [h c u]
    exact C.2.1 c u
  · intro o ho
    rw [h2 o ho]
    exact C.2.2.1 o ho
end
end
section
/-! the state of the component: statics and the twelve fields that cells and chunks change -/
abbrev HST : Type := Int32 × Int32 × (Nat → Int32) × (Nat → Int32) × (Nat → Int32) × (Nat → Int32) × (Nat → Int32) × (Nat → Int32) × (Nat → Int32) × (Nat → Int32) × (Nat → Int32) × (Nat → Int32)
def hs_fr (s : HST) : Int32 := s.1
def hs_qd (s : HST) : Int32 := s.2.1
def hs_ho (s : HST) : Nat → Int32 := s.2.2.1
def hs_fc (s : HST) : Nat → Int32 := s.2.2.2.1
def hs_lc (s : HST) : Nat → Int32 := s.2.2.2.2.1
def hs_kh (s : HST) : Nat → Int32 := s.2.2.2.2.2.1
def hs_kf (s : HST) : Nat → Int32 := s.2.2.2.2.2.2.1
def hs_nx (s : HST) : Nat → Int32 := s.2.2.2.2.2.2.2.1
def hs_cv (s : HST) : Nat → Int32 := s.2.2.2.2.2.2.2.2.1
def hs_fw (s : HST) : Nat → Int32 := s.2.2.2.2.2.2.2.2.2.1
def hs_cf (s : HST) : Nat → Int32 := s.2.2.2.2.2.2.2.2.2.2.1
def hs_qu (s : HST) : Nat → Int32 := s.2.2.2.2.2.2.2.2.2.2.2
abbrev hh_X (nl lb ld cc cs ct ol tl dl oc : Int32) (lv pa ch rg hd mk : Nat → Int32) (s : HST) : SX := (nl, lb, ld, cc, cs, ct, ol, tl, dl, oc, hs_fr s, hs_qd s, lv, pa, ch, rg, hd, hs_ho s, hs_fc s, hs_lc s, hs_kh s, hs_kf s, hs_nx s, hs_cv s, hs_fw s, hs_cf s, mk, hs_qu s)
def hh_lv (lv : Nat → Int32) (tN : Nat) (v : Int32) : Prop := ∃ t, t < tN ∧ v = nI t ∧ lv t ≠ 0
def hh_gd (v : Int32) : Prop := ∃ j, j < 4 ∧ v = nI j
def hh_gf (v : Int32) : Prop := ∃ f, f < 2 ∧ v = nI f
def hh_pr (pa : Nat → Int32) : Nat → Nat := fun t => (pa t).toNatClampNeg
def hh_nd (lv : Nat → Int32) : Nat → Prop := fun t => lv t ≠ 0
def hh_bz (lv pa : Nat → Int32) (t : Nat) : Prop := ∃ j, j < 8 ∧ lv j ≠ 0 ∧ pa j = nI t
def hh_TK (tN dN : Nat) (lv pa hd : Nat → Int32) (dp : Nat → Nat) : Prop :=
  2 ≤ tN ∧ tN ≤ 8 ∧ 1 ≤ dN ∧ dN ≤ 3 ∧ lv 0 ≠ 0 ∧ dp 0 = 0 ∧ pa 0 = -1 ∧ hd 8 = nI 4 ∧
  (∀ t, lv t ≠ 0 → t < tN ∧ hd t = nI (dp t) ∧ dp t ≤ dN) ∧
  (∀ t, lv t ≠ 0 → t ≠ 0 → ∃ p, p < 8 ∧ pa t = nI p ∧ lv p ≠ 0 ∧ dp t = dp p + 1)
def hh_KC (lv pa ch : Nat → Int32) : Prop := ∀ t, lv t ≠ 0 → ch t = nI (hh_cn (fun j => lv j ≠ 0 ∧ pa j = nI t) 8)
theorem hh_cl {n : Nat} (h : n < 2000) : (nI n).toNatClampNeg = n := nI_clamp (by omega)
theorem hh_m1 : ((-1 : Int32)) < 0 := by decide
theorem hh_m1' : ¬ (0 : Int32) ≤ -1 := by decide
theorem hh_mc : ((-1 : Int32)).toNatClampNeg = 0 := by decide
theorem hh_mn {n : Nat} (h : n < 2000) : nI n ≠ -1 := fun z => by
  have := nI_pos (n := n) (by omega)
  rw [z] at this
  exact this hh_m1
theorem hh_ni {a b : Nat} (ha : a < 2000) (hb : b < 2000) (e : nI a = nI b) : a = b := (nI_eq (by omega) (by omega)).mp e
theorem tk_tr {tN dN : Nat} {lv pa hd : Nat → Int32} {dp : Nat → Nat} (T : hh_TK tN dN lv pa hd dp) : hh_TR (hh_nd lv) (hh_pr pa) dp ∧ hh_pr pa 0 = 0 ∧ ∀ b, hh_nd lv b → b < 8 ∧ dp b ≤ 3 := by
  obtain ⟨h1, h2, h3, h4, h5, h6, h7, h8, h9, h10⟩ := T
  have p0 : hh_pr pa 0 = 0 := by
    show (pa 0).toNatClampNeg = 0
    rw [h7]; decide
  refine ⟨?_, p0, ?_⟩
  · intro b hb
    by_cases z : b = 0
    · subst z
      rw [p0]
      exact ⟨hb, by rw [h6], fun _ => rfl⟩
    · obtain ⟨p, hp, e, hl, hd⟩ := h10 b hb z
      have e' : hh_pr pa b = p := by
        show (pa b).toNatClampNeg = p
        rw [e]; exact hh_cl (by omega)
      rw [e']
      exact ⟨hl, by omega, fun w => by omega⟩
  · intro b hb
    have := h9 b hb
    exact ⟨by omega, by omega⟩
theorem tk_leaf {tN dN : Nat} {lv pa hd : Nat → Int32} {dp : Nat → Nat} (T : hh_TK tN dN lv pa hd dp) {t : Nat} (h : ¬ hh_bz lv pa t) : hh_leaf (hh_nd lv) (hh_pr pa) t := by
  intro j hj j0 e
  obtain ⟨p, hp, e2, hl, hd⟩ := T.2.2.2.2.2.2.2.2.2 j hj j0
  refine h ⟨j, ((tk_tr T).2.2 j hj).1, hj, ?_⟩
  have e' : hh_pr pa j = p := by
    show (pa j).toNatClampNeg = p
    rw [e2]; exact hh_cl (by omega)
  rw [e2, ← e', e]
theorem kc_bz {lv pa ch : Nat → Int32} (K : hh_KC lv pa ch) {t : Nat} (ht : lv t ≠ 0) : (hh_bz lv pa t → ¬ ch t ≤ 0) ∧ (¬ hh_bz lv pa t → ch t ≤ 0) := by
  have e := K t ht
  have l := cn_le (p := fun j => lv j ≠ 0 ∧ pa j = nI t) 8
  constructor
  · intro ⟨j, hj, h1, h2⟩
    have := cn_pos (p := fun j => lv j ≠ 0 ∧ pa j = nI t) (k := j) ⟨h1, h2⟩ 8 hj
    rw [e]
    exact nI_nle this (by omega)
  · intro h
    have z := cn_z (p := fun j => lv j ≠ 0 ∧ pa j = nI t) 8 (fun i hi hh => h ⟨i, hi, hh.1, hh.2⟩)
    rw [e, z]
    decide
section
variable {nl lb ld cc cs ct oc : Int32} {oN tN dN : Nat} {lv pa ch rg hd mk : Nat → Int32} {s : HST}
variable {bt bo bv bf bm br : Nat → Int32}
theorem x_live1 (h8 : tN ≤ 8) {t : Nat} (ht : t < tN) (hl : lv t ≠ 0) {post : Int32 → Prop} (h : post 1) : wpX_isLive post (hh_X nl lb ld cc cs ct (nI oN) (nI tN) (nI dN) oc lv pa ch rg hd mk s) (nI t) :=
  br_f (nI_pos (by omega)) (br_f (nI_ge ht (by omega)) (And.intro (vp_in_nI (by omega) (by omega)) (br_f (by rw [hh_cl (by omega)]; exact hl) h)))
theorem x_live0 (h8 : tN ≤ 8) {v : Int32} (hn : ¬ hh_lv lv tN v) {post : Int32 → Prop} (h : post 0) : wpX_isLive post (hh_X nl lb ld cc cs ct (nI oN) (nI tN) (nI dN) oc lv pa ch rg hd mk s) v := by
  refine br_c (fun _ => h) (fun h0 => ?_)
  obtain ⟨j, hj, rfl⟩ := nI_of h0
  refine br_c (fun _ => h) (fun hl => ?_)
  have hj2 : j < tN := Nat.lt_of_not_le fun z => hl (nI_le z hj)
  refine And.intro (vp_in_nI (by omega) (by omega)) (br_c (fun _ => h) (fun hl => ?_))
  rw [hh_cl (by omega)] at hl
  exact absurd ⟨j, hj2, rfl, hl⟩ hn
theorem y_live1 (h8 : tN ≤ 8) {t : Nat} (ht : t < tN) (hl : lv t ≠ 0) {post : Int32 → Prop} (h : post 1) : wpY_isLive post ((nI oN), (nI tN), (nI dN), bt, bo, bv, bf, bm, lv, pa, br) (nI t) :=
  br_f (nI_pos (by omega)) (br_f (nI_ge ht (by omega)) (And.intro (vp_in_nI (by omega) (by omega)) (br_f (by rw [hh_cl (by omega)]; exact hl) h)))
theorem y_live0 (h8 : tN ≤ 8) {v : Int32} (hn : ¬ hh_lv lv tN v) {post : Int32 → Prop} (h : post 0) : wpY_isLive post ((nI oN), (nI tN), (nI dN), bt, bo, bv, bf, bm, lv, pa, br) v := by
  refine br_c (fun _ => h) (fun h0 => ?_)
  obtain ⟨j, hj, rfl⟩ := nI_of h0
  refine br_c (fun _ => h) (fun hl => ?_)
  have hj2 : j < tN := Nat.lt_of_not_le fun z => hl (nI_le z hj)
  refine And.intro (vp_in_nI (by omega) (by omega)) (br_c (fun _ => h) (fun hl => ?_))
  rw [hh_cl (by omega)] at hl
  exact absurd ⟨j, hj2, rfl, hl⟩ hn
theorem x_reg1 {j : Nat} (hj : j < 4) {post : Int32 → Prop} (h : post 1) : wpX_goodReg post (hh_X nl lb ld cc cs ct (nI oN) (nI tN) (nI dN) oc lv pa ch rg hd mk s) (nI j) :=
  br_f (nI_pos (by omega)) (br_f (nI_ge (b := 4) hj (by decide)) h)
theorem x_reg0 {v : Int32} (hn : ¬ hh_gd v) {post : Int32 → Prop} (h : post 0) : wpX_goodReg post (hh_X nl lb ld cc cs ct (nI oN) (nI tN) (nI dN) oc lv pa ch rg hd mk s) v := by
  refine br_c (fun _ => h) (fun h0 => br_c (fun _ => h) (fun h4 => ?_))
  obtain ⟨j, hj, rfl⟩ := nI_of h0
  exact absurd ⟨j, Nat.lt_of_not_le fun z => h4 (nI_le (a := 4) z hj), rfl⟩ hn
theorem y_reg1 {j : Nat} (hj : j < 4) {post : Int32 → Prop} (h : post 0) : wpY_badReg post ((nI oN), (nI tN), (nI dN), bt, bo, bv, bf, bm, lv, pa, br) (nI j) :=
  br_f (nI_pos (by omega)) (br_t (nI_lt (b := 4) hj (by decide)) h)
theorem y_reg0 {v : Int32} (hn : ¬ hh_gd v) {post : Int32 → Prop} (h : post 1) : wpY_badReg post ((nI oN), (nI tN), (nI dN), bt, bo, bv, bf, bm, lv, pa, br) v := by
  refine br_c (fun _ => h) (fun h0 => br_c (fun h4 => ?_) (fun _ => h))
  obtain ⟨j, hj, rfl⟩ := nI_of h0
  exact absurd ⟨j, (nI_ltI (b := 4) hj (by decide)).mp h4, rfl⟩ hn
theorem x_fld1 {f : Nat} (hf : f < 2) {post : Int32 → Prop} (h : post 1) : wpX_goodField post (hh_X nl lb ld cc cs ct (nI oN) (nI tN) (nI dN) oc lv pa ch rg hd mk s) (nI f) := by
  have : f = 0 ∨ f = 1 := by omega
  rcases this with rfl | rfl
  · exact br_t rfl h
  · exact br_f (by decide) (br_t rfl h)
theorem x_fld0 {v : Int32} (hn : ¬ hh_gf v) {post : Int32 → Prop} (h : post 0) : wpX_goodField post (hh_X nl lb ld cc cs ct (nI oN) (nI tN) (nI dN) oc lv pa ch rg hd mk s) v :=
  br_f (fun e => hn ⟨0, by decide, e⟩) (br_f (fun e => hn ⟨1, by decide, e⟩) h)
theorem y_fld1 {f : Nat} (hf : f < 2) {post : Int32 → Prop} (h : post 0) : wpY_badField post ((nI oN), (nI tN), (nI dN), bt, bo, bv, bf, bm, lv, pa, br) (nI f) := by
  have : f = 0 ∨ f = 1 := by omega
  rcases this with rfl | rfl
  · exact br_t rfl h
  · exact br_f (by decide) (br_t rfl h)
theorem y_fld0 {v : Int32} (hn : ¬ hh_gf v) {post : Int32 → Prop} (h : post 1) : wpY_badField post ((nI oN), (nI tN), (nI dN), bt, bo, bv, bf, bm, lv, pa, br) v :=
  br_f (fun e => hn ⟨0, by decide, e⟩) (br_f (fun e => hn ⟨1, by decide, e⟩) h)
theorem y_bz2 (h8 : tN ≤ 8) (hl : ∀ j, lv j ≠ 0 → j < tN) {t : Nat} {post : Int32 → Prop} (h1 : hh_bz lv pa t → post 1) (h0 : ¬ hh_bz lv pa t → post 0) :
    ∀ d j : Nat, j + d = tN → (∀ i, i < j → lv i ≠ 0 → pa i ≠ nI t) → wY_isBusy_2 post (nI t) (nI oN) (nI tN) (nI dN) bt bo bv bf bm lv pa br (d + 1) (nI j) := by
  intro d
  induction d with
  | zero =>
    intro j hj hi
    exact br_t (nI_le (by omega) (by omega)) (h0 (fun ⟨i, _, a, b⟩ => hi i (by have := hl i a; omega) a b))
  | succ d ih =>
    intro j hj hi
    have ej : (nI j).toNatClampNeg = j := hh_cl (by omega)
    refine br_f (nI_ge (by omega) (by omega)) (And.intro (vp_in_nI (by omega) (by omega)) ?_)
    rw [ej]
    by_cases z : lv j = 0
    · exact br_t z (nm_r (nI_1 j) (ih (j + 1) (by omega) (fun i hij => by
        by_cases e : i = j
        · subst e; exact fun w => absurd z w
        · exact hi i (by omega))))
    · refine br_f z (And.intro (vp_in_nI (by omega) (by omega)) ?_)
      by_cases y : pa j = nI t
      · exact br_t y (h1 ⟨j, by omega, z, y⟩)
      · exact br_f y (nm_r (nI_1 j) (ih (j + 1) (by omega) (fun i hij => by
          by_cases e : i = j
          · subst e; exact fun _ => y
          · exact hi i (by omega))))
theorem y_bz (h8 : tN ≤ 8) (hl : ∀ j, lv j ≠ 0 → j < tN) {t : Nat} {post : Int32 → Prop} (h1 : hh_bz lv pa t → post 1) (h0 : ¬ hh_bz lv pa t → post 0) : wpY_isBusy post ((nI oN), (nI tN), (nI dN), bt, bo, bv, bf, bm, lv, pa, br) (nI t) :=
  ⟨tN + 1, y_bz2 h8 hl h1 h0 tN 0 (by omega) (fun i hi => by omega)⟩
theorem y_dep2 {dp : Nat → Nat} {hd' : Nat → Int32} (T : hh_TK tN dN lv pa hd' dp) {post : Int32 → Prop} : ∀ (m t a : Nat), lv t ≠ 0 → dp t ≤ m → m ≤ 8 → a + dp t ≤ 8 → post (nI (a + dp t)) →
    wY_depthOf_7 post (nI oN) (nI tN) (nI dN) bt bo bv bf bm lv pa br (m + 1) (nI t) (nI a) (nI (8 - m)) := by
  intro m
  induction m with
  | zero =>
    intro t a ht hd h8 ha h
    have e : dp t = 0 := by omega
    rw [e, Nat.add_zero] at h
    exact br_t (nI_le (a := 8) (by omega) (by omega)) h
  | succ m ih =>
    intro t a ht hd h8 ha h
    have t8 := ((tk_tr T).2.2 t ht).1
    refine br_f (nI_ge (b := 8) (by omega) (by omega)) ?_
    have e8 : nI (8 - (m + 1)) + 1 = nI (8 - m) := by rw [nI_1]; exact congrArg nI (by omega)
    by_cases z : t = 0
    · subst z
      refine br_t (nI_le (a := 0) (b := 0) (by omega) (by omega)) (nm_r e8 (ih 0 a ht ?_ (by omega) ha h))
      have := T.2.2.2.2.2.1
      omega
    · obtain ⟨p, hp, ep, hl, hd2⟩ := T.2.2.2.2.2.2.2.2.2 t ht z
      refine br_f (nI_nle (by omega) (by omega)) (And.intro (vp_in_nI (by omega) (by omega)) (nm_r (e' := nI p) ?_ (nm_r (nI_1 a) (nm_r e8 (ih p (a + 1) hl (by omega) (by omega) ?_ ?_)))))
      · rw [hh_cl (by omega)]; exact ep
      · omega
      · rw [hd2, show a + (dp p + 1) = a + 1 + dp p by omega] at h
        exact h
theorem y_dep {dp : Nat → Nat} {hd' : Nat → Int32} (T : hh_TK tN dN lv pa hd' dp) {t : Nat} (ht : lv t ≠ 0) {post : Int32 → Prop} (h : post (nI (dp t))) : wpY_depthOf post ((nI oN), (nI tN), (nI dN), bt, bo, bv, bf, bm, lv, pa, br) (nI t) := by
  have b3 := ((tk_tr T).2.2 t ht).2
  refine ⟨9, y_dep2 T 8 t 0 ht (by omega) (by omega) (by omega) ?_⟩
  · rw [Nat.zero_add]; exact h
/-- refuseLeaf and refusal -/
theorem xy_leaf {dp : Nat → Nat} (T : hh_TK tN dN lv pa hd dp) (K : hh_KC lv pa ch) (v a b : Int32) :
    (∃ r : Int32, r ≠ 0 ∧ (∀ post : Int32 → Prop, post r → wpX_refuseLeaf post (hh_X nl lb ld cc cs ct (nI oN) (nI tN) (nI dN) oc lv pa ch rg hd mk s) v a b) ∧ (∀ post : Int32 → Prop, post r → wpY_refusal post ((nI oN), (nI tN), (nI dN), bt, bo, bv, bf, bm, lv, pa, br) v)) ∨
    (∃ t, t < tN ∧ v = nI t ∧ lv t ≠ 0 ∧ ¬ hh_bz lv pa t ∧ (∀ post : Int32 → Prop, post 0 → wpY_refusal post ((nI oN), (nI tN), (nI dN), bt, bo, bv, bf, bm, lv, pa, br) v) ∧
      ((¬ (hh_gd a ∧ hh_gd b) ∧ ∀ post : Int32 → Prop, post (-3) → wpX_refuseLeaf post (hh_X nl lb ld cc cs ct (nI oN) (nI tN) (nI dN) oc lv pa ch rg hd mk s) v a b) ∨
       (hh_gd a ∧ hh_gd b ∧ ∀ post : Int32 → Prop, post 0 → wpX_refuseLeaf post (hh_X nl lb ld cc cs ct (nI oN) (nI tN) (nI dN) oc lv pa ch rg hd mk s) v a b))) := by
  have h8 := T.2.1
  have hl : ∀ j, lv j ≠ 0 → j < tN := fun j h => (T.2.2.2.2.2.2.2.2.1 j h).1
  by_cases hv : hh_lv lv tN v
  · obtain ⟨t, ht, rfl, lt⟩ := hv
    have et : (nI t).toNatClampNeg = t := hh_cl (by omega)
    by_cases hb : hh_bz lv pa t
    · left
      refine ⟨-2, by decide, fun post h => ?_, fun post h => ?_⟩
      · unfold wpX_refuseLeaf
        refine x_live1 (s := s) h8 ht lt ?_
        refine br_f (by decide) (And.intro (vp_in_nI (by omega) (by omega)) (br_f ?_ h))
        rw [et]; exact (kc_bz K lt).1 hb
      · unfold wpY_refusal
        refine y_live1 h8 ht lt ?_
        refine br_f (by decide) ?_
        refine y_bz h8 hl (fun _ => ?_) (fun z => absurd hb z)
        exact br_f (by decide) h
    · right
      refine ⟨t, ht, rfl, lt, hb, fun post h => ?_, ?_⟩
      · unfold wpY_refusal
        refine y_live1 h8 ht lt ?_
        refine br_f (by decide) ?_
        refine y_bz h8 hl (fun z => absurd z hb) (fun _ => ?_)
        exact br_t rfl h
      · have hc : ch (nI t).toNatClampNeg ≤ 0 := by rw [et]; exact (kc_bz K lt).2 hb
        by_cases ga : hh_gd a
        · by_cases gb : hh_gd b
          · right
            refine ⟨ga, gb, fun post h => ?_⟩
            obtain ⟨i, hi, rfl⟩ := ga
            obtain ⟨j, hj, rfl⟩ := gb
            unfold wpX_refuseLeaf
            refine x_live1 (s := s) h8 ht lt ?_
            refine br_f (by decide) (And.intro (vp_in_nI (by omega) (by omega)) (br_t hc ?_))
            refine x_reg1 (s := s) hi ?_
            refine br_f (by decide) ?_
            refine x_reg1 (s := s) hj ?_
            exact br_f (by decide) h
          · left
            refine ⟨fun z => gb z.2, fun post h => ?_⟩
            obtain ⟨i, hi, rfl⟩ := ga
            unfold wpX_refuseLeaf
            refine x_live1 (s := s) h8 ht lt ?_
            refine br_f (by decide) (And.intro (vp_in_nI (by omega) (by omega)) (br_t hc ?_))
            refine x_reg1 (s := s) hi ?_
            refine br_f (by decide) ?_
            refine x_reg0 (s := s) gb ?_
            exact br_t rfl h
        · left
          refine ⟨fun z => ga z.1, fun post h => ?_⟩
          unfold wpX_refuseLeaf
          refine x_live1 (s := s) h8 ht lt ?_
          refine br_f (by decide) (And.intro (vp_in_nI (by omega) (by omega)) (br_t hc ?_))
          refine x_reg0 (s := s) ga ?_
          exact br_t rfl h
  · left
    refine ⟨-1, by decide, fun post h => ?_, fun post h => ?_⟩
    · unfold wpX_refuseLeaf
      refine x_live0 (s := s) h8 hv ?_
      exact br_t rfl h
    · unfold wpY_refusal
      refine y_live0 h8 hv ?_
      exact br_t rfl h
end
end
section
/-! walks of resolve, held, ownerOf, clearHeap, addChunk, newCell -/
theorem hh_shr {c : Nat} (h : c < 2000) : nI c >>> ((2 : Int32) &&& 31) = nI (c / 4) := pk_shrN (by omega) _ 2 (by decide)
theorem hh_shl {c : Nat} (h : c < 2000) : nI c <<< ((2 : Int32) &&& 31) = nI (c * 4) := pk_shlN _ 2 (by decide) (by omega)
theorem cs_kh {fc lc kh kf nx : Nat → Int32} {fr : Int32} {us : Nat → Prop} {hp : Nat → Nat} (S : hh_CS fc lc kh kf nx fr us hp) {c : Nat} (u : us c) : c < 512 ∧ kh (c / 4) = nI (hp c) := by
  obtain ⟨ch, fl, L, W⟩ := S
  have a := (W.2.2.2.2.1 c).mp u
  have b := (W.2.2.2.1 (c / 4) (by omega)).2 a.2.1
  refine ⟨a.1, ?_⟩
  rw [b.1, W.2.2.2.2.2 c u]
/-- where an object is: nil for none -/
def hh_cr (g : HG) (o : Nat) : Int32 := if o = 0 then -1 else nI (gg_cl g o)
theorem cr_0 (g : HG) : hh_cr g 0 = -1 := rfl
theorem cr_n (g : HG) {o : Nat} (h : o ≠ 0) : hh_cr g o = nI (gg_cl g o) := if_neg h
section
variable {nl lb ld cc cs ct oc : Int32} {oN tN dN : Nat} {lv pa ch rg hd mk : Nat → Int32} {s : HST}
variable {g : HG} {nd : Nat → Prop} {an : Nat → Nat → Prop} {bd : Nat → Nat → Nat} {th : Nat → Prop} {ow : Nat → Nat}
theorem x_res4 {hs : Nat → Nat} (C : hh_CH hs g (hs_fw s) nd an bd th ow) (hb : ∀ a b, bd a b ≤ 4) {post : Int32 → Prop} : ∀ (m c i n : Nat), hs c = m → gg_us g c → i + m ≤ 4 → m < n →
    post (nI (gg_cl g (gg_ob g c))) → wX_resolve_4 post nl lb ld cc cs ct (nI oN) (nI tN) (nI dN) oc (hs_fr s) (hs_qd s) lv pa ch rg hd (hs_ho s) (hs_fc s) (hs_lc s) (hs_kh s) (hs_kf s) (hs_nx s) (hs_cv s) (hs_fw s) (hs_cf s) mk (hs_qu s) n (nI c) (nI i) := by
  intro m
  induction m with
  | zero =>
    intro c i n hc u hi hn h
    obtain ⟨n, rfl⟩ : ∃ n', n = n' + 1 := ⟨n - 1, by omega⟩
    have c5 := (C.1 c u).1
    have e := ch_home C u hc
    rw [← e] at h
    refine br_f (nI_ge (b := 512) (by omega) (by omega)) (br_f (nI_pos (by omega)) (And.intro (vp_in_nI c5 (by omega)) (br_t ?_ h)))
    rw [hh_cl (by omega)]
    rcases C.2.1 c u with ⟨_, f⟩ | ⟨y, f, u', e, hc', a⟩
    · rw [f]; exact hh_m1
    · omega
  | succ m ih =>
    intro c i n hc u hi hn h
    obtain ⟨n, rfl⟩ : ∃ n', n = n' + 1 := ⟨n - 1, by omega⟩
    have c5 := (C.1 c u).1
    rcases C.2.1 c u with ⟨z, f⟩ | ⟨y, f, u', e, hc', a⟩
    · omega
    · have y5 := (C.1 y u').1
      have ef : hs_fw s (nI c).toNatClampNeg = nI y := by rw [hh_cl (by omega)]; exact f
      refine br_f (nI_ge (b := 512) (by omega) (by omega)) (br_f (nI_pos (by omega)) (And.intro (vp_in_nI c5 (by omega)) (br_f ?_ (And.intro (vp_in_nI c5 (by omega)) (nm_r ef (nm_r (nI_1 i) (ih y (i + 1) n (by omega) u' (by omega) (by omega) ?_)))))))
      · rw [ef]; exact nI_pos (by omega)
      · rw [e]; exact h
theorem x_res (C : hh_CM g (hs_fw s) nd an bd th ow) (hb : ∀ a b, bd a b ≤ 4) {x : Int32} {o h : Nat} (R : hh_Rf g an x o h) {post : Int32 → Prop} (H : post (hh_cr g o)) : wpX_resolve post (hh_X nl lb ld cc cs ct (nI oN) (nI tN) (nI dN) oc lv pa ch rg hd mk s) x := by
  rcases R with ⟨rfl, rfl⟩ | ⟨c, rfl, u, rfl, a⟩
  · exact ⟨1, br_f (by decide) (br_t hh_m1 H)⟩
  · obtain ⟨hs, C⟩ := C
    have a := C.1 c u
    have b := C.2.2.1 _ a.2.1
    have l := hb (gg_hp g c) (ow (gg_ob g c))
    rw [cr_n g (by omega)] at H
    exact ⟨5, x_res4 C hb (hs c) c 0 5 rfl u (by omega) (by omega) H⟩
theorem x_own (S : hh_CS (hs_fc s) (hs_lc s) (hs_kh s) (hs_kf s) (hs_nx s) (hs_fr s) (gg_us g) (gg_hp g)) {c : Nat} (u : gg_us g c) {post : Int32 → Prop} (H : post (nI (gg_hp g c))) : wpX_ownerOf post (hh_X nl lb ld cc cs ct (nI oN) (nI tN) (nI dN) oc lv pa ch rg hd mk s) (nI c) := by
  have a := cs_kh S u
  have e := hh_shr (c := c) (by omega)
  have e2 : (nI c >>> ((2 : Int32) &&& 31)).toNatClampNeg = c / 4 := by rw [e]; exact hh_cl (by omega)
  refine And.intro (by rw [e]; exact vp_in_nI (by omega) (by omega)) ?_
  show post (hs_kh s (nI c >>> ((2 : Int32) &&& 31)).toNatClampNeg)
  rw [e2, a.2]
  exact H
theorem hh_ix {t r : Nat} (ht : t < 8) (hr : r < 4) : nI t * 4 + nI r = nI (t * 4 + r) ∧ t * 4 + r < 32 := by
  refine ⟨?_, by omega⟩
  rw [show (4 : Int32) = nI 4 from rfl, pk_mul, nI_add]
theorem x_held (C : hh_CM g (hs_fw s) nd an bd th ow) (hb : ∀ a b, bd a b ≤ 4) {t r o h : Nat} (ht : t < 8) (hr : r < 4) (R : hh_Rf g an (rg (t * 4 + r)) o h) {post : Int32 → Prop} (H : post (hh_cr g o)) : wpX_held post (hh_X nl lb ld cc cs ct (nI oN) (nI tN) (nI dN) oc lv pa ch rg hd mk s) (nI t) (nI r) := by
  have e := hh_ix ht hr
  refine And.intro (by rw [e.1]; exact vp_in_nI e.2 (by omega)) ?_
  rw [e.1, hh_cl (by omega)]
  exact x_res (s := s) C hb R H
theorem x_clr {h : Nat} (hh : h ≤ 8) {post : SX → Prop} (H : post (hh_X nl lb ld cc cs ct (nI oN) (nI tN) (nI dN) oc lv pa ch rg hd mk (hs_fr s, hs_qd s, upd (hs_ho s) h 0, upd (hs_fc s) h (-1), upd (hs_lc s) h (-1), hs_kh s, hs_kf s, hs_nx s, hs_cv s, hs_fw s, hs_cf s, hs_qu s))) : wpX_clearHeap post (hh_X nl lb ld cc cs ct (nI oN) (nI tN) (nI dN) oc lv pa ch rg hd mk s) (nI h) := by
  have v : vp_in (nI h) 9 := vp_in_nI (by omega) (by omega)
  have e : (nI h).toNatClampNeg = h := hh_cl (by omega)
  refine And.intro v (nm_r (e' := upd (hs_fc s) h (-1)) (by rw [e]) (And.intro v (nm_r (e' := upd (hs_lc s) h (-1)) (by rw [e]) (And.intro v (nm_r (e' := upd (hs_ho s) h 0) (by rw [e]) H)))))
theorem x_n27 {k n h : Nat} (hk : k < 128) (hn : n < 4) (hh : h ≤ 8) (e : hs_kf s k = nI n) {post : Int32 → SX → Prop}
    (H : post (nI (4 * k + n)) (hh_X nl lb ld cc cs ct (nI oN) (nI tN) (nI dN) oc lv pa ch rg hd mk (hs_fr s, hs_qd s, upd (hs_ho s) h (hs_ho s h + 1), hs_fc s, hs_lc s, hs_kh s, upd (hs_kf s) k (nI (n + 1)), hs_nx s, hs_cv s, upd (hs_fw s) (4 * k + n) (-1), hs_cf s, hs_qu s))) : wX_newCell_27 post (nI h) (nI k) nl lb ld cc cs ct (nI oN) (nI tN) (nI dN) oc (hs_fr s) (hs_qd s) lv pa ch rg hd (hs_ho s) (hs_fc s) (hs_lc s) (hs_kh s) (hs_kf s) (hs_nx s) (hs_cv s) (hs_fw s) (hs_cf s) mk (hs_qu s) := by
  have v9 : vp_in (nI h) 9 := vp_in_nI (by omega) (by omega)
  have eh : (nI h).toNatClampNeg = h := hh_cl (by omega)
  have vk : vp_in (nI k) 128 := vp_in_nI (by omega) (by omega)
  have ek : (nI k).toNatClampNeg = k := hh_cl (by omega)
  have ec : (nI (4 * k + n)).toNatClampNeg = 4 * k + n := hh_cl (by omega)
  refine br_t (nI_pos' (by omega)) (And.intro vk (nm_r (e' := nI (4 * k + n)) ?_ (And.intro vk (And.intro vk (nm_r (e' := upd (hs_kf s) k (nI (n + 1))) ?_ (And.intro (vp_in_nI (by omega) (by omega)) (nm_r (e' := upd (hs_fw s) (4 * k + n) (-1)) ?_ (And.intro v9 (And.intro v9 (nm_r (e' := upd (hs_ho s) h (hs_ho s h + 1)) ?_ H))))))))))
  · rw [ek, e, hh_shl (by omega), nI_add]; exact congrArg nI (by omega)
  · rw [ek, e, nI_1]
  · rw [ec]
  · rw [eh]
theorem x_add1 {k h : Nat} (hk : k < 128) (hh : h ≤ 8) (e : hs_fr s = nI k) (f0 : 0 ≤ hs_fc s h) {post : Int32 → SX → Prop}
    (H : post (nI k) (hh_X nl lb ld cc cs ct (nI oN) (nI tN) (nI dN) oc lv pa ch rg hd mk (hs_nx s k, hs_qd s, hs_ho s, upd (hs_fc s) h (nI k), hs_lc s, upd (hs_kh s) k (nI h), upd (hs_kf s) k 0, upd (hs_nx s) k (hs_fc s h), hs_cv s, hs_fw s, hs_cf s, hs_qu s))) : wpX_addChunk post (hh_X nl lb ld cc cs ct (nI oN) (nI tN) (nI dN) oc lv pa ch rg hd mk s) (nI h) := by
  have v9 : vp_in (nI h) 9 := vp_in_nI (by omega) (by omega)
  have eh : (nI h).toNatClampNeg = h := hh_cl (by omega)
  have vk : vp_in (nI k) 128 := vp_in_nI (by omega) (by omega)
  have ek : (nI k).toNatClampNeg = k := hh_cl (by omega)
  simp only [wpX_addChunk, e, ek, eh]
  exact br_t (nI_pos' (by omega)) (And.intro vk (nm_e (And.intro vk (nm_e (And.intro vk (nm_e (And.intro v9 (And.intro vk (nm_e (And.intro v9 (br_t f0 (And.intro v9 (nm_e H)))))))))))))
theorem x_add2 {k h : Nat} (hk : k < 128) (hh : h ≤ 8) (e : hs_fr s = nI k) (f0 : ¬ 0 ≤ hs_fc s h) {post : Int32 → SX → Prop}
    (H : post (nI k) (hh_X nl lb ld cc cs ct (nI oN) (nI tN) (nI dN) oc lv pa ch rg hd mk (hs_nx s k, hs_qd s, hs_ho s, upd (hs_fc s) h (nI k), upd (hs_lc s) h (nI k), upd (hs_kh s) k (nI h), upd (hs_kf s) k 0, upd (hs_nx s) k (hs_fc s h), hs_cv s, hs_fw s, hs_cf s, hs_qu s))) : wpX_addChunk post (hh_X nl lb ld cc cs ct (nI oN) (nI tN) (nI dN) oc lv pa ch rg hd mk s) (nI h) := by
  have v9 : vp_in (nI h) 9 := vp_in_nI (by omega) (by omega)
  have eh : (nI h).toNatClampNeg = h := hh_cl (by omega)
  have vk : vp_in (nI k) 128 := vp_in_nI (by omega) (by omega)
  have ek : (nI k).toNatClampNeg = k := hh_cl (by omega)
  simp only [wpX_addChunk, e, ek, eh]
  exact br_t (nI_pos' (by omega)) (And.intro vk (nm_e (And.intro vk (nm_e (And.intro vk (nm_e (And.intro v9 (And.intro vk (nm_e (And.intro v9 (br_f f0 (And.intro v9 (nm_e (And.intro v9 (nm_e H)))))))))))))))
theorem x_new {us : Nat → Prop} {hp : Nat → Nat} (S : hh_CS (hs_fc s) (hs_lc s) (hs_kh s) (hs_kf s) (hs_nx s) (hs_fr s) us hp) (P : ∃ k, k < 128 ∧ ¬ us (4 * k)) {h : Nat} (hh : h ≤ 8) :
    ∃ (c : Nat) (fr : Int32) (fc lc kh kf nx : Nat → Int32), c < 512 ∧ ¬ us c ∧ hh_CS fc lc kh kf nx fr (fun x => us x ∨ x = c) (hh_up hp c h) ∧
      ∀ post : Int32 → SX → Prop, post (nI c) (hh_X nl lb ld cc cs ct (nI oN) (nI tN) (nI dN) oc lv pa ch rg hd mk (fr, hs_qd s, upd (hs_ho s) h (hs_ho s h + 1), fc, lc, kh, kf, nx, hs_cv s, upd (hs_fw s) c (-1), hs_cf s, hs_qu s)) → wpX_newCell post (hh_X nl lb ld cc cs ct (nI oN) (nI tN) (nI dN) oc lv pa ch rg hd mk s) (nI h) := by
  obtain ⟨ch, fl, L, W⟩ := S
  obtain ⟨k0, l0, e0⟩ := cs_free W P
  have B := cs_b W hh e0
  have v9 : vp_in (nI h) 9 := vp_in_nI (by omega) (by omega)
  have eh : (nI h).toNatClampNeg = h := hh_cl (by omega)
  have ef : hs_fc s (nI h).toNatClampNeg = hs_fc s h := by rw [eh]
  have kk : ∀ j, j ≠ k0 → upd (upd (hs_kf s) k0 0) k0 (nI (0 + 1)) j = hs_kf s j := fun j hj => by rw [pk_un hj, pk_un hj]
  cases e : L h with
  | nil =>
    have fh := (W.2.1 h hh).1
    rw [e] at fh
    have fh := lc_n.mp fh
    have n0 : ¬ 0 ≤ hs_fc s h := by rw [fh]; exact hh_m1'
    refine ⟨4 * k0, hs_nx s k0, upd (hs_fc s) h (nI k0), upd (hs_lc s) h (nI k0), upd (hs_kh s) k0 (nI h), upd (upd (hs_kf s) k0 0) k0 (nI (0 + 1)), upd (hs_nx s) k0 (hs_fc s h), by have := B.1; omega, B.2.2.1, ?_, fun post H => ?_⟩
    · exact B.2.2.2 _ _ _ _ pk_us (fun j hj => pk_un hj) (fun _ => pk_us) (fun z => absurd e z) (fun j hj => pk_un hj) pk_us (fun j hj => pk_un hj) pk_us kk
    · refine And.intro v9 (nm_r (ef.trans fh) (br_t hh_m1 ?_))
      exact x_add2 (s := s) B.1 hh B.2.1 n0 (x_n27 (s := (hs_nx s k0, hs_qd s, hs_ho s, upd (hs_fc s) h (nI k0), upd (hs_lc s) h (nI k0), upd (hs_kh s) k0 (nI h), upd (hs_kf s) k0 0, upd (hs_nx s) k0 (hs_fc s h), hs_cv s, hs_fw s, hs_cf s, hs_qu s)) B.1 (n := 0) (by omega) hh pk_us H)
  | cons k l =>
    have fh := (W.2.1 h hh).1
    rw [e] at fh
    have fh := (lc_c.mp fh).1
    have m := ((W.1 h (by omega)).2 k).mp (by rw [e]; exact List.mem_cons_self)
    have w := (W.2.2.2.1 k m.1).2 (by omega)
    have k1 := m.1
    have ek : hs_kf s (nI k).toNatClampNeg = nI (fl k) := by rw [hh_cl (by omega)]; exact w.2.1
    by_cases c4 : fl k < 4
    · have A := cs_a W hh e c4
      refine ⟨4 * k + fl k, hs_fr s, hs_fc s, hs_lc s, hs_kh s, upd (hs_kf s) k (nI (fl k + 1)), hs_nx s, by omega, A.1, A.2 _ pk_us (fun j hj => pk_un hj), fun post H => ?_⟩
      refine And.intro v9 (nm_r (ef.trans fh) (br_f (nI_pos (by omega)) (And.intro (vp_in_nI (by omega) (by omega)) (br_t ?_ (x_n27 (s := s) k1 c4 hh w.2.1 H)))))
      rw [ek]; exact nI_lt (b := 4) c4 (by decide)
    · have n0 : 0 ≤ hs_fc s h := by rw [fh]; exact nI_pos' (by omega)
      refine ⟨4 * k0, hs_nx s k0, upd (hs_fc s) h (nI k0), hs_lc s, upd (hs_kh s) k0 (nI h), upd (upd (hs_kf s) k0 0) k0 (nI (0 + 1)), upd (hs_nx s) k0 (hs_fc s h), by have := B.1; omega, B.2.2.1, ?_, fun post H => ?_⟩
      · exact B.2.2.2 _ _ _ _ pk_us (fun j hj => pk_un hj) (fun z => by rw [e] at z; simp at z) (fun _ => rfl) (fun j hj => rfl) pk_us (fun j hj => pk_un hj) pk_us kk
      · refine And.intro v9 (nm_r (ef.trans fh) (br_f (nI_pos (by omega)) (And.intro (vp_in_nI (by omega) (by omega)) (br_f ?_ ?_))))
        · rw [ek]; exact nI_nlt (b := 4) (by omega) (by omega)
        · exact x_add1 (s := s) B.1 hh B.2.1 n0 (x_n27 (s := (hs_nx s k0, hs_qd s, hs_ho s, upd (hs_fc s) h (nI k0), hs_lc s, upd (hs_kh s) k0 (nI h), upd (hs_kf s) k0 0, upd (hs_nx s) k0 (hs_fc s h), hs_cv s, hs_fw s, hs_cf s, hs_qu s)) B.1 (n := 0) (by omega) hh pk_us H)
end
end
section
/-! the heap invariant, and evacuate -/
def hh_HI (s : HST) (g : HG) (nd : Nat → Prop) (an : Nat → Nat → Prop) (bd : Nat → Nat → Nat) (th : Nat → Prop) (fd : Nat → Nat) (va : Nat → Int32) (ow vw : Nat → Nat) : Prop :=
  hh_CS (hs_fc s) (hs_lc s) (hs_kh s) (hs_kf s) (hs_nx s) (hs_fr s) (gg_us g) (gg_hp g) ∧
  hh_CM g (hs_fw s) nd an bd th ow ∧
  (∀ o f, th o → f < 2 → hh_Rf g an (hs_cf s (gg_cl g o * 2 + f)) (fd (2 * o + f)) (vw (2 * o + f))) ∧
  (∀ o, th o → hs_cv s (gg_cl g o) = va o) ∧
  (∀ h, h ≤ 8 → hs_ho s h = nI (hh_cn (fun o => th o ∧ ow o = h) 25))
theorem ho_promote {ho : Nat → Int32} {th : Nat → Prop} {ow : Nat → Nat} (HO : ∀ j, j ≤ 8 → ho j = nI (hh_cn (fun p => th p ∧ ow p = j) 25)) {o h : Nat} (to : th o) (o25 : o < 25) (h8 : h ≤ 8) (w8 : ow o ≤ 8) (wh : ow o ≠ h) :
    ∀ j, j ≤ 8 → upd (upd ho h (ho h + 1)) (ow o) (upd ho h (ho h + 1) (ow o) - 1) j = nI (hh_cn (fun p => th p ∧ hh_up ow o h p = j) 25) := by
  intro j hj
  by_cases jw : j = ow o
  · subst jw
    rw [pk_us, pk_un wh, HO _ w8]
    have e := cn_add1 (p := fun p => th p ∧ hh_up ow o h p = ow o) (q := fun p => th p ∧ ow p = ow o) (k := o) (fun z => wh (z.2.symm.trans hh_us)) ⟨to, rfl⟩ 25 o25 (fun i _ hi => by rw [hh_un hi])
    rw [e]
    exact nI_pred _
  · rw [pk_un jw]
    by_cases jh : j = h
    · subst jh
      rw [pk_us, HO _ h8]
      have e := cn_add1 (p := fun p => th p ∧ ow p = j) (q := fun p => th p ∧ hh_up ow o j p = j) (k := o) (fun z => wh z.2) ⟨to, hh_us⟩ 25 o25 (fun i _ hi => by rw [hh_un hi])
      rw [e]
      exact nI_1 _
    · rw [pk_un jh, HO _ hj]
      refine congrArg nI (cn_congr 25 (fun i _ => ?_))
      by_cases hi : i = o
      · subst hi
        rw [hh_us]
        exact ⟨fun z => absurd z.2.symm jw, fun z => absurd z.2.symm jh⟩
      · rw [hh_un hi]
theorem fm_promote {g : HG} {an : Nat → Nat → Prop} {th : Nat → Prop} {fd vw : Nat → Nat} {cf cf' : Nat → Int32} (tr : ∀ a b c, an a b → an b c → an a c)
    (us : ∀ o, th o → gg_us g (gg_cl g o)) (FM : ∀ o f, th o → f < 2 → hh_Rf g an (cf (gg_cl g o * 2 + f)) (fd (2 * o + f)) (vw (2 * o + f))) {o c h sv : Nat} (nu : ¬ gg_us g c)
    (hv : ∀ f, f < 2 → an (vw (2 * o + f)) sv) (c0 : cf' (c * 2) = cf (gg_cl g o * 2)) (c1 : cf' (c * 2 + 1) = cf (gg_cl g o * 2 + 1)) (c2 : ∀ j, j ≠ c * 2 → j ≠ c * 2 + 1 → cf' j = cf j) :
    ∀ p f, th p → f < 2 → hh_Rf (gg_add g c h o) an (cf' (gg_cl (gg_add g c h o) p * 2 + f)) (fd (2 * p + f)) (hh_up (hh_up vw (2 * o) sv) (2 * o + 1) sv (2 * p + f)) := by
  intro p f hp hf
  rw [ga_cl]
  by_cases e : p = o
  · subst e
    rw [hh_us]
    have R := rf_up tr (rf_ext (ext_add (c := c) (h := h) (o := p) nu) (FM p f hp hf)) (hv f hf)
    have hf' : f = 0 ∨ f = 1 := by omega
    rcases hf' with rfl | rfl
    · rw [hh_un (by omega), Nat.add_zero, Nat.add_zero, hh_us, c0]
      rw [Nat.add_zero, Nat.add_zero] at R
      exact R
    · rw [hh_us, c1]
      exact R
  · rw [hh_un e, hh_un (by omega), hh_un (by omega)]
    have ne : gg_cl g p ≠ c := fun z => nu (z ▸ us p hp)
    rw [c2 _ (by omega) (by omega)]
    exact rf_ext (ext_add nu) (FM p f hp hf)
section
variable {nl lb ld cc cs ct oc : Int32} {oN tN dN : Nat} {lv pa ch rg hd mk : Nat → Int32} {s : HST}
variable {g : HG} {nd : Nat → Prop} {an : Nat → Nat → Prop} {bd : Nat → Nat → Nat} {th : Nat → Prop} {fd ow vw dp : Nat → Nat} {va : Nat → Int32} {sv h : Nat}
/-- what holds of the order and of the depths all through a traversal seen from sv, into heap h -/
def hh_OD (nd : Nat → Prop) (an : Nat → Nat → Prop) (bd : Nat → Nat → Nat) (dp : Nat → Nat) (hd : Nat → Int32) (sv h : Nat) : Prop :=
  hh_GO nd an dp ∧ (∀ a b, bd a b ≤ 4) ∧ (∀ a, nd a → a ≤ 8 ∧ hd a = nI (dp a) ∧ dp a ≤ 4) ∧ nd sv ∧ an h sv ∧
  (∀ a b, nd a → an b sv → dp h < dp b → an b a → bd a b + 1 ≤ bd a h)
theorem x_evac0 (O : hh_OD nd an bd dp hd sv h) (I : hh_HI s g nd an bd th fd va ow vw) {x : Int32} {o : Nat} (R : hh_Rf g an x o sv) (z : o = 0 ∨ dp (ow o) ≤ dp h)
    {post : Int32 → SX → Prop} (H : post (hh_cr g o) (hh_X nl lb ld cc cs ct (nI oN) (nI tN) (nI dN) oc lv pa ch rg hd mk s)) : wpX_evacuate post (hh_X nl lb ld cc cs ct (nI oN) (nI tN) (nI dN) oc lv pa ch rg hd mk s) x (nI h) := by
  obtain ⟨G, hb, D, ns, ah, hbd⟩ := O
  unfold wpX_evacuate
  refine x_res (s := s) I.2.1 hb R ?_
  by_cases o0 : o = 0
  · subst o0
    exact br_t hh_m1 H
  · have t := rf_th I.2.1 G.1 G.2.1 R o0
    have kt := cm_th I.2.1 t.1
    have c5 := cm_512 I.2.1 t.1
    have nw := G.2.2.1 _ _ t.2 ns
    have dw := D _ nw.1
    have nh := D _ (G.2.2.1 _ _ ah ns).1
    have le : dp (ow o) ≤ dp h := z.elim (fun y => absurd y o0) id
    rw [cr_n g o0] at H ⊢
    refine br_f (nI_pos (by omega)) (br_c (fun _ => ?_) (fun _ => H))
    refine x_own (s := s) I.1 kt.2.2.1 ?_
    rw [kt.2.2.2.2]
    refine And.intro (vp_in_nI (by omega) (by omega)) (And.intro (vp_in_nI (by omega) (by omega)) (br_f ?_ H))
    rw [hh_cl (by omega), hh_cl (by omega), dw.2.1, nh.2.1]
    exact nI_nlt le (by omega)
theorem x_evac1 (O : hh_OD nd an bd dp hd sv h) (I : hh_HI s g nd an bd th fd va ow vw) {x : Int32} {o : Nat} (R : hh_Rf g an x o sv) (o0 : o ≠ 0) (dlt : dp h < dp (ow o))
    (hv : ∀ f, f < 2 → an (vw (2 * o + f)) sv) {q : Nat} (hq : hs_qd s = nI q) (q24 : q < 24) :
    ∃ (c : Nat) (s' : HST), ¬ gg_us g c ∧ hh_HI s' (gg_add g c h o) nd an bd th fd va (hh_up ow o h) (hh_up (hh_up vw (2 * o) sv) (2 * o + 1) sv) ∧
      hs_qd s' = nI (q + 1) ∧ hs_qu s' = upd (hs_qu s) q (nI c) ∧ ∀ post : Int32 → SX → Prop, post (nI c) (hh_X nl lb ld cc cs ct (nI oN) (nI tN) (nI dN) oc lv pa ch rg hd mk s') → wpX_evacuate post (hh_X nl lb ld cc cs ct (nI oN) (nI tN) (nI dN) oc lv pa ch rg hd mk s) x (nI h) := by
  obtain ⟨G, hb, D, ns, ah, hbd⟩ := O
  obtain ⟨CS, CM, FM, VM, HO⟩ := I
  have t := rf_th CM G.1 G.2.1 R o0
  have kt := cm_th CM t.1
  have c5 := cm_512 CM t.1
  have nw := G.2.2.1 _ _ t.2 ns
  have dw := D _ nw.1
  have nh0 := (G.2.2.1 _ _ ah ns).1
  have nh := D _ nh0
  have wh : ow o ≠ h := fun z => by rw [z] at dlt; omega
  have ahw : an h (ow o) := G.2.2.2 sv h (ow o) ns ah t.2 (by omega)
  obtain ⟨c, fr, fc, lc, kh, kf, nx, c5', nu, CS', Wn⟩ := x_new (s := s) (nl := nl) (lb := lb) (ld := ld) (cc := cc) (cs := cs) (ct := ct) (oN := oN) (tN := tN) (dN := dN) (oc := oc) (lv := lv) (pa := pa) (ch := ch) (rg := rg) (hd := hd) (mk := mk) CS (cm_pig CM hb) nh.1
  have kc : gg_cl g o ≠ c := fun z => nu (z ▸ kt.2.2.1)
  have ek : (nI (gg_cl g o)).toNatClampNeg = gg_cl g o := hh_cl (by omega)
  have ec : (nI c).toNatClampNeg = c := hh_cl (by omega)
  have ew : (nI (ow o)).toNatClampNeg = ow o := hh_cl (by omega)
  have eh : (nI h).toNatClampNeg = h := hh_cl (by omega)
  have k2 : nI (gg_cl g o) * 2 = nI (gg_cl g o * 2) := pk_mul _ 2
  have c2 : nI c * 2 = nI (c * 2) := pk_mul _ 2
  have ek2 : (nI (gg_cl g o * 2)).toNatClampNeg = gg_cl g o * 2 := hh_cl (by omega)
  have ec2 : (nI (c * 2)).toNatClampNeg = c * 2 := hh_cl (by omega)
  have ek3 : (nI (gg_cl g o * 2 + 1)).toNatClampNeg = gg_cl g o * 2 + 1 := hh_cl (by omega)
  have ec3 : (nI (c * 2 + 1)).toNatClampNeg = c * 2 + 1 := hh_cl (by omega)
  refine ⟨c, (fr, nI (q + 1), upd (upd (hs_ho s) h (hs_ho s h + 1)) (ow o) (upd (hs_ho s) h (hs_ho s h + 1) (ow o) - 1), fc, lc, kh, kf, nx, upd (hs_cv s) c (hs_cv s (gg_cl g o)), upd (upd (hs_fw s) c (-1)) (gg_cl g o) (nI c), upd (upd (hs_cf s) (c * 2) (hs_cf s (gg_cl g o * 2))) (c * 2 + 1) (upd (hs_cf s) (c * 2) (hs_cf s (gg_cl g o * 2)) (gg_cl g o * 2 + 1)), upd (hs_qu s) q (nI c)), nu, ⟨CS', ?_, ?_, ?_, ?_⟩, rfl, rfl, fun post H => ?_⟩
  · refine cm_promote CM t.1 nu c5' nh0 ahw (fun y u e => ?_) ?_ ?_ ?_
    · have e2 := cm_own CM G.1 G.2.1 u
      rw [e] at e2
      exact hbd _ _ (cm_us CM u).2.2 t.2 dlt e2
    · show upd (upd (hs_fw s) c (-1)) (gg_cl g o) (nI c) c = -1
      rw [pk_un (fun z => kc z.symm), pk_us]
    · exact pk_us
    · intro y h1 h2
      show upd (upd (hs_fw s) c (-1)) (gg_cl g o) (nI c) y = hs_fw s y
      rw [pk_un h2, pk_un h1]
  · refine fm_promote G.2.1 (fun p hp => (cm_th CM hp).2.2.1) FM nu hv ?_ ?_ ?_
    · show upd (upd (hs_cf s) (c * 2) (hs_cf s (gg_cl g o * 2))) (c * 2 + 1) (upd (hs_cf s) (c * 2) (hs_cf s (gg_cl g o * 2)) (gg_cl g o * 2 + 1)) (c * 2) = _
      rw [pk_un (by omega), pk_us]
    · show upd (upd (hs_cf s) (c * 2) (hs_cf s (gg_cl g o * 2))) (c * 2 + 1) (upd (hs_cf s) (c * 2) (hs_cf s (gg_cl g o * 2)) (gg_cl g o * 2 + 1)) (c * 2 + 1) = _
      rw [pk_us, pk_un (by omega)]
    · intro j h1 h2
      show upd (upd (hs_cf s) (c * 2) (hs_cf s (gg_cl g o * 2))) (c * 2 + 1) (upd (hs_cf s) (c * 2) (hs_cf s (gg_cl g o * 2)) (gg_cl g o * 2 + 1)) j = _
      rw [pk_un h2, pk_un h1]
  · intro p hp
    show upd (hs_cv s) c (hs_cv s (gg_cl g o)) (gg_cl (gg_add g c h o) p) = va p
    rw [ga_cl]
    by_cases e : p = o
    · subst e; rw [hh_us, pk_us]; exact VM p hp
    · have ne : gg_cl g p ≠ c := fun z => nu (z ▸ (cm_th CM hp).2.2.1)
      rw [hh_un e, pk_un ne]; exact VM p hp
  · exact ho_promote HO t.1 kt.2.1 nh.1 dw.1 wh
  · unfold wpX_evacuate
    refine x_res (s := s) CM hb R ?_
    rw [cr_n g o0]
    refine br_f (nI_pos (by omega)) (br_t ?_ (x_own (s := s) CS kt.2.2.1 ?_))
    · show hs_qd s < Int32.ofNat 24
      rw [hq]
      exact nI_lt (b := 24) q24 (by omega)
    · rw [kt.2.2.2.2]
      have vw9 : vp_in (nI (ow o)) 9 := vp_in_nI (by omega) (by omega)
      have vk5 : vp_in (nI (gg_cl g o)) 512 := vp_in_nI (by omega) (by omega)
      refine And.intro vw9 (And.intro (vp_in_nI (by omega) (by omega)) (br_t ?_ (Wn _ ?_)))
      · rw [ew, eh, dw.2.1, nh.2.1]
        exact nI_lt dlt (by omega)
      · refine br_t (nI_pos' (by omega)) (And.intro vk5 (And.intro (vp_in_nI c5' (by omega)) (nm_r (e' := upd (hs_cv s) c (hs_cv s (gg_cl g o))) ?_ (And.intro ?_ (And.intro ?_ (nm_r (e' := upd (hs_cf s) (c * 2) (hs_cf s (gg_cl g o * 2))) ?_ (And.intro ?_ (And.intro ?_ (nm_r (e' := upd (upd (hs_cf s) (c * 2) (hs_cf s (gg_cl g o * 2))) (c * 2 + 1) (upd (hs_cf s) (c * 2) (hs_cf s (gg_cl g o * 2)) (gg_cl g o * 2 + 1))) ?_ (And.intro vk5 (nm_r (e' := upd (upd (hs_fw s) c (-1)) (gg_cl g o) (nI c)) ?_ (And.intro vw9 (And.intro vw9 (nm_r (e' := upd (upd (hs_ho s) h (hs_ho s h + 1)) (ow o) (upd (hs_ho s) h (hs_ho s h + 1) (ow o) - 1)) ?_ (And.intro ?_ (nm_r (e' := upd (hs_qu s) q (nI c)) ?_ (nm_r (e' := nI (q + 1)) ?_ H)))))))))))))))))
        · show upd (hs_cv s) (nI c).toNatClampNeg (hs_cv s (nI (gg_cl g o)).toNatClampNeg) = _
          rw [ec, ek]
        · rw [k2]; exact vp_in_nI (by omega) (by omega)
        · rw [c2]; exact vp_in_nI (by omega) (by omega)
        · show upd (hs_cf s) (nI c * 2).toNatClampNeg (hs_cf s (nI (gg_cl g o) * 2).toNatClampNeg) = _
          rw [c2, k2, ec2, ek2]
        · rw [k2, nI_1]; exact vp_in_nI (by omega) (by omega)
        · rw [c2, nI_1]; exact vp_in_nI (by omega) (by omega)
        · rw [c2, k2, nI_1, nI_1, ec3, ek3]
        · show upd (upd (hs_fw s) c (-1)) (nI (gg_cl g o)).toNatClampNeg (nI c) = _
          rw [ek]
        · show upd (upd (hs_ho s) h (hs_ho s h + 1)) (nI (ow o)).toNatClampNeg (upd (hs_ho s) h (hs_ho s h + 1) (nI (ow o)).toNatClampNeg - 1) = _
          rw [ew]
        · show vp_in (hs_qd s) 24
          rw [hq]; exact vp_in_nI q24 (by omega)
        · show upd (hs_qu s) (hs_qd s).toNatClampNeg (nI c) = _
          rw [hq, hh_cl (by omega)]
        · show hs_qd s + 1 = _
          rw [hq, nI_1]
end
end
section
/-! a phase of evacuations: one reference, one field, the loop over the queue -/
section
variable {nl lb ld cc cs ct oc : Int32} {oN tN dN : Nat} {lv pa ch rg hd mk : Nat → Int32} {s : HST}
variable {g : HG} {nd : Nat → Prop} {an : Nat → Nat → Prop} {bd : Nat → Nat → Nat} {th M : Nat → Prop} {fd ow0 ow vw dp qs : Nat → Nat} {va : Nat → Int32} {sv h i q : Nat}
theorem hi_fld (I : hh_HI s g nd an bd th fd va ow vw) {p f o' h' : Nat} (tp : th p) (hf : f < 2) {y : Int32} (R : hh_Rf g an y o' h') :
    hh_HI (hs_fr s, hs_qd s, hs_ho s, hs_fc s, hs_lc s, hs_kh s, hs_kf s, hs_nx s, hs_cv s, hs_fw s, upd (hs_cf s) (gg_cl g p * 2 + f) y, hs_qu s) g nd an bd th (hh_up fd (2 * p + f) o') va ow (hh_up vw (2 * p + f) h') := by
  refine ⟨I.1, I.2.1, ?_, I.2.2.2.1, I.2.2.2.2⟩
  intro q f' hq hf'
  show hh_Rf g an (upd (hs_cf s) (gg_cl g p * 2 + f) y (gg_cl g q * 2 + f')) (hh_up fd (2 * p + f) o' (2 * q + f')) (hh_up vw (2 * p + f) h' (2 * q + f'))
  by_cases e : q = p
  · subst e
    by_cases e2 : f' = f
    · subst e2; rw [pk_us, hh_us, hh_us]; exact R
    · rw [pk_un (by omega), hh_un (by omega), hh_un (by omega)]; exact I.2.2.1 q f' hq hf'
  · have ne : gg_cl g q ≠ gg_cl g p := fun z => e (cm_cl I.2.1 hq tp z)
    rw [pk_un (by omega), hh_un (by omega), hh_un (by omega)]; exact I.2.2.1 q f' hq hf'
def hh_EP (s : HST) (g : HG) (nd : Nat → Prop) (an : Nat → Nat → Prop) (bd : Nat → Nat → Nat) (th : Nat → Prop) (fd : Nat → Nat) (va : Nat → Int32) (dp ow0 ow vw : Nat → Nat) (M : Nat → Prop) (sv h i q : Nat) (qs : Nat → Nat) : Prop :=
  hh_HI s g nd an bd th fd va ow vw ∧ hs_qd s = nI q ∧ q = hh_cn (fun o => ow o ≠ ow0 o) 25 ∧ i ≤ q ∧
  (∀ j, j < q → hs_qu s j = nI (gg_cl g (qs j)) ∧ th (qs j) ∧ ow (qs j) = h ∧ M (qs j)) ∧
  (∀ o, ow o = ow0 o ∨ (th o ∧ ow o = h ∧ dp h < dp (ow0 o) ∧ M o)) ∧
  (∀ o f, th o → f < 2 → vw (2 * o + f) = ow o ∨ (vw (2 * o + f) = sv ∧ ∃ j, i ≤ j ∧ j < q ∧ qs j = o))
theorem ep_24 (E : hh_EP s g nd an bd th fd va dp ow0 ow vw M sv h i q qs) : q ≤ 24 := by
  obtain ⟨I, hq, eq, iq, Q, W, V⟩ := E
  have n0 : ¬ (ow 0 ≠ ow0 0) := fun z => by
    rcases W 0 with y | y
    · exact z y
    · exact cm_0 I.2.1 y.1
  have := cn_lt (p := fun o => ow o ≠ ow0 o) n0 25 (by omega)
  omega
theorem x_step (O : hh_OD nd an bd dp hd sv h) (E : hh_EP s g nd an bd th fd va dp ow0 ow vw M sv h i q qs) {x : Int32} {o : Nat} (R : hh_Rf g an x o sv) (mo : o ≠ 0 → M o) :
    ∃ (s' : HST) (g' : HG) (ow' vw' : Nat → Nat) (q' : Nat) (qs' : Nat → Nat) (y : Int32), hh_EP s' g' nd an bd th fd va dp ow0 ow' vw' M sv h i q' qs' ∧ hh_Rf g' an y o h ∧ hh_Ext g g' ∧
      q ≤ q' ∧ (∀ j, j < q → qs' j = qs j) ∧ (∀ p, th p → ow p = h → gg_cl g' p = gg_cl g p ∧ ow' p = h ∧ ∀ f, f < 2 → vw' (2 * p + f) = vw (2 * p + f)) ∧
      ∀ post : Int32 → SX → Prop, post y (hh_X nl lb ld cc cs ct (nI oN) (nI tN) (nI dN) oc lv pa ch rg hd mk s') → wpX_evacuate post (hh_X nl lb ld cc cs ct (nI oN) (nI tN) (nI dN) oc lv pa ch rg hd mk s) x (nI h) := by
  have G := O.1
  have ns := O.2.2.2.1
  have ah := O.2.2.2.2.1
  by_cases z : o = 0 ∨ dp (ow o) ≤ dp h
  · refine ⟨s, g, ow, vw, q, qs, hh_cr g o, E, ?_, ext_refl g, Nat.le_refl _, fun _ _ => rfl, fun p _ hp => ⟨rfl, hp, fun _ _ => rfl⟩, fun post H => x_evac0 (s := s) O E.1 R z H⟩
    by_cases o0 : o = 0
    · subst o0; exact Or.inl ⟨rfl, rfl⟩
    · have t := rf_th E.1.2.1 G.1 G.2.1 R o0
      rw [cr_n g o0]
      exact rf_home E.1.2.1 t.1 (G.2.2.2 sv _ _ ns t.2 ah (z.elim (fun y => absurd y o0) id))
  · have o0 : o ≠ 0 := fun y => z (Or.inl y)
    have dlt : dp h < dp (ow o) := Nat.lt_of_not_le fun y => z (Or.inr y)
    obtain ⟨I, hq, eq, iq, Q, W, V⟩ := E
    have t := rf_th I.2.1 G.1 G.2.1 R o0
    have kt := cm_th I.2.1 t.1
    have wh : ow o ≠ h := fun z => by rw [z] at dlt; omega
    have w0 : ow o = ow0 o := (W o).elim id (fun y => absurd y.2.1 wh)
    have n0 : ¬ (ow 0 ≠ ow0 0) := fun z => by
      rcases W 0 with y | y
      · exact z y
      · exact cm_0 I.2.1 y.1
    have q24 := cn_lt2 (p := fun o => ow o ≠ ow0 o) (j := 0) (k := o) (n := 25) n0 (fun y => y w0) (by omega) kt.2.1 (fun y => o0 y.symm)
    obtain ⟨c, s', nu, I', hq', hu', Wk⟩ := x_evac1 (s := s) (nl := nl) (lb := lb) (ld := ld) (cc := cc) (cs := cs) (ct := ct) (oN := oN) (tN := tN) (dN := dN) (oc := oc) (lv := lv) (pa := pa) (ch := ch) (rg := rg) (hd := hd) (mk := mk) O I R o0 dlt (fun f hf => by
      rcases V o f t.1 hf with e | e
      · rw [e]; exact t.2
      · rw [e.1]; exact G.1 sv) hq (by omega)
    refine ⟨s', gg_add g c h o, hh_up ow o h, hh_up (hh_up vw (2 * o) sv) (2 * o + 1) sv, q + 1, hh_up qs q o, nI c, ⟨I', hq', ?_, by omega, ?_, ?_, ?_⟩, ?_, ext_add nu, by omega, fun j hj => hh_un (by omega), ?_, Wk⟩
    · rw [eq]
      refine (cn_add1 (p := fun o => ow o ≠ ow0 o) (q := fun p => hh_up ow o h p ≠ ow0 p) (k := o) (fun y => y w0) ?_ 25 kt.2.1 (fun p _ hp => by rw [hh_un hp])).symm
      rw [hh_us]
      exact fun y => wh (w0.trans y.symm)
    · intro j hj
      by_cases e : j = q
      · subst e
        rw [hu', pk_us, hh_us, ga_cl, hh_us, hh_us]
        exact ⟨rfl, t.1, rfl, mo o0⟩
      · have a := Q j (by omega)
        have ne : qs j ≠ o := fun y => wh (y ▸ a.2.2.1)
        rw [hu', pk_un e, hh_un e, ga_cl, hh_un ne, hh_un ne]
        exact a
    · intro p
      by_cases e : p = o
      · subst e
        rw [hh_us]
        exact Or.inr ⟨t.1, rfl, by rw [← w0]; exact dlt, mo o0⟩
      · rw [hh_un e]
        exact W p
    · intro p f hp hf
      by_cases e : p = o
      · subst e
        right
        refine ⟨?_, q, iq, by omega, hh_us⟩
        have hf' : f = 0 ∨ f = 1 := by omega
        rcases hf' with rfl | rfl
        · rw [hh_un (by omega)]; exact hh_us
        · exact hh_us
      · rw [hh_un (by omega), hh_un (by omega), hh_un e]
        rcases V p f hp hf with y | ⟨y, j, h1, h2, h3⟩
        · exact Or.inl y
        · exact Or.inr ⟨y, j, h1, by omega, by rw [hh_un (by omega)]; exact h3⟩
    · exact Or.inr ⟨c, rfl, Or.inr rfl, by rw [ga_ob, hh_us], by rw [ga_hp, hh_us]; exact G.1 h⟩
    · intro p hp hph
      have e : p ≠ o := fun y => wh (y ▸ hph)
      rw [ga_cl, hh_un e, hh_un e]
      exact ⟨rfl, hph, fun f hf => by rw [hh_un (by omega), hh_un (by omega)]⟩
/-- one field of the queue's i-th object: evacuate, write back -/
theorem x_fs (O : hh_OD nd an bd dp hd sv h) (hM : ∀ p f, th p → M p → f < 2 → M (fd (2 * p + f))) (E : hh_EP s g nd an bd th fd va dp ow0 ow vw M sv h i q qs) (hi : i < q) {f : Nat} (hf : f < 2) :
    ∃ (s' : HST) (g' : HG) (ow' vw' : Nat → Nat) (q' : Nat) (qs' : Nat → Nat) (y : Int32),
      hh_EP (hs_fr s', hs_qd s', hs_ho s', hs_fc s', hs_lc s', hs_kh s', hs_kf s', hs_nx s', hs_cv s', hs_fw s', upd (hs_cf s') (gg_cl g (qs i) * 2 + f) y, hs_qu s') g' nd an bd th fd va dp ow0 ow' vw' M sv h i q' qs' ∧ hh_Ext g g' ∧
      q ≤ q' ∧ (∀ j, j < q → qs' j = qs j) ∧ (∀ p, th p → ow p = h → gg_cl g' p = gg_cl g p ∧ ow' p = h) ∧ vw' (2 * qs i + f) = h ∧ (∀ f', f' < 2 → vw (2 * qs i + f') = h → vw' (2 * qs i + f') = h) ∧
      ∀ post : Int32 → SX → Prop, post y (hh_X nl lb ld cc cs ct (nI oN) (nI tN) (nI dN) oc lv pa ch rg hd mk s') → wpX_evacuate post (hh_X nl lb ld cc cs ct (nI oN) (nI tN) (nI dN) oc lv pa ch rg hd mk s) (hs_cf s (gg_cl g (qs i) * 2 + f)) (nI h) := by
  have a := E.2.2.2.2.1 i hi
  have G := O.1
  have R := E.1.2.2.1 (qs i) f a.2.1 hf
  have R' : hh_Rf g an (hs_cf s (gg_cl g (qs i) * 2 + f)) (fd (2 * qs i + f)) sv := by
    refine rf_up G.2.1 R ?_
    rcases E.2.2.2.2.2.2 (qs i) f a.2.1 hf with e | e
    · rw [e, a.2.2.1]; exact O.2.2.2.2.1
    · rw [e.1]; exact G.1 sv
  obtain ⟨s', g', ow', vw', q', qs', y, E', Ry, X, qq, qe, P, Wk⟩ := x_step (s := s) (nl := nl) (lb := lb) (ld := ld) (cc := cc) (cs := cs) (ct := ct) (oN := oN) (tN := tN) (dN := dN) (oc := oc) (lv := lv) (pa := pa) (ch := ch) (rg := rg) (hd := hd) (mk := mk) O E R' (fun _ => hM _ f a.2.1 a.2.2.2 hf)
  have Pi := P (qs i) a.2.1 a.2.2.1
  refine ⟨s', g', ow', hh_up vw' (2 * qs i + f) h, q', qs', y, ?_, X, qq, qe, fun p h1 h2 => ⟨(P p h1 h2).1, (P p h1 h2).2.1⟩, hh_us, ?_, Wk⟩
  · obtain ⟨I, hq, eq, iq, Q, W, V⟩ := E'
    have I2 := hi_fld I (p := qs i) a.2.1 hf Ry
    rw [hh_id, Pi.1] at I2
    refine ⟨I2, hq, eq, iq, Q, W, ?_⟩
    intro o f' ho hf'
    by_cases e : 2 * o + f' = 2 * qs i + f
    · left
      have eo : o = qs i := by omega
      rw [e, hh_us, eo, Pi.2.1]
    · rw [hh_un e]; exact V o f' ho hf'
  · intro f' hf' e
    by_cases e2 : f' = f
    · subst e2; exact hh_us
    · rw [hh_un (by omega), Pi.2.2 f' hf']; exact e
theorem x_evf (O : hh_OD nd an bd dp hd sv h) (hM : ∀ p f, th p → M p → f < 2 → M (fd (2 * p + f))) : ∀ (d i q : Nat) (s : HST) (g : HG) (ow vw qs : Nat → Nat), i + d = 24 →
    hh_EP s g nd an bd th fd va dp ow0 ow vw M sv h i q qs →
    ∃ (s' : HST) (g' : HG) (ow' vw' : Nat → Nat) (q' : Nat) (qs' : Nat → Nat), hh_EP s' g' nd an bd th fd va dp ow0 ow' vw' M sv h q' q' qs' ∧ hh_Ext g g' ∧
      (∀ p, th p → ow p = h → gg_cl g' p = gg_cl g p ∧ ow' p = h) ∧
      ∀ (n : Nat) (post : SX → Prop), d < n → post (hh_X nl lb ld cc cs ct (nI oN) (nI tN) (nI dN) oc lv pa ch rg hd mk s') → wX_evacuateFields_2 post (nI h) n (nI i) nl lb ld cc cs ct (nI oN) (nI tN) (nI dN) oc (hs_fr s) (hs_qd s) lv pa ch rg hd (hs_ho s) (hs_fc s) (hs_lc s) (hs_kh s) (hs_kf s) (hs_nx s) (hs_cv s) (hs_fw s) (hs_cf s) mk (hs_qu s) := by
  intro d
  induction d with
  | zero =>
    intro i q s g ow vw qs hde E
    have q24 := ep_24 E
    have iq := E.2.2.2.1
    have e : i = q := by omega
    subst e
    refine ⟨s, g, ow, vw, i, qs, E, ext_refl g, fun p _ hp => ⟨rfl, hp⟩, fun n post hn H => ?_⟩
    obtain ⟨n, rfl⟩ : ∃ n', n = n' + 1 := ⟨n - 1, by omega⟩
    refine br_t ?_ H
    show hs_qd s ≤ nI i
    rw [E.2.1]
    exact nI_le (Nat.le_refl _) (by omega)
  | succ d ih =>
    intro i q s g ow vw qs hde E
    have q24 := ep_24 E
    have iq := E.2.2.2.1
    by_cases hi : i < q
    · have a := E.2.2.2.2.1 i hi
      obtain ⟨s1, g1, ow1, vw1, q1, qs1, y1, E1, X1, qq1, qe1, P1, z1, _, W1⟩ := x_fs (s := s) (nl := nl) (lb := lb) (ld := ld) (cc := cc) (cs := cs) (ct := ct) (oN := oN) (tN := tN) (dN := dN) (oc := oc) (lv := lv) (pa := pa) (ch := ch) (rg := rg) (hd := hd) (mk := mk) O hM E hi (f := 0) (by omega)
      have P1i := P1 (qs i) a.2.1 a.2.2.1
      have e1 := qe1 i hi
      obtain ⟨s2, g2, ow2, vw2, q2, qs2, y2, E2, X2, qq2, qe2, P2, z2, zz2, W2⟩ := x_fs (s := (hs_fr s1, hs_qd s1, hs_ho s1, hs_fc s1, hs_lc s1, hs_kh s1, hs_kf s1, hs_nx s1, hs_cv s1, hs_fw s1, upd (hs_cf s1) (gg_cl g (qs i) * 2 + 0) y1, hs_qu s1)) (nl := nl) (lb := lb) (ld := ld) (cc := cc) (cs := cs) (ct := ct) (oN := oN) (tN := tN) (dN := dN) (oc := oc) (lv := lv) (pa := pa) (ch := ch) (rg := rg) (hd := hd) (mk := mk) O hM E1 (by omega) (f := 1) (by omega)
      rw [e1] at E2 z2 zz2 W2
      rw [P1i.1] at E2 W2
      have P2i := P2 (qs i) a.2.1 P1i.2
      have k5 := cm_512 E.1.2.1 a.2.1
      have E3 : hh_EP (hs_fr s2, hs_qd s2, hs_ho s2, hs_fc s2, hs_lc s2, hs_kh s2, hs_kf s2, hs_nx s2, hs_cv s2, hs_fw s2, upd (hs_cf s2) (gg_cl g (qs i) * 2 + 1) y2, hs_qu s2) g2 nd an bd th fd va dp ow0 ow2 vw2 M sv h (i + 1) q2 qs2 := by
        obtain ⟨I, hq, eq, iq, Q, W, V⟩ := E2
        refine ⟨I, hq, eq, by omega, Q, W, ?_⟩
        intro o f ho hf
        rcases V o f ho hf with y | ⟨y, j, h1, h2, h3⟩
        · exact Or.inl y
        · by_cases e : j = i
          · left
            have eo : o = qs i := by rw [← h3, e, qe2 i (by omega), e1]
            rw [eo, P2i.2]
            have hf' : f = 0 ∨ f = 1 := by omega
            rcases hf' with rfl | rfl
            · exact zz2 0 (by omega) z1
            · exact z2
          · exact Or.inr ⟨y, j, by omega, h2, h3⟩
      obtain ⟨s', g', ow', vw', q', qs', E', X', P', W'⟩ := ih (i + 1) q2 _ g2 ow2 vw2 qs2 (by omega) E3
      refine ⟨s', g', ow', vw', q', qs', E', ext_trans X1 (ext_trans X2 X'), fun p h1 h2 => ?_, fun n post hn H => ?_⟩
      · have b1 := P1 p h1 h2
        have b2 := P2 p h1 b1.2
        have b3 := P' p h1 b2.2
        exact ⟨b3.1.trans (b2.1.trans b1.1), b3.2⟩
      · obtain ⟨n, rfl⟩ : ∃ n', n = n' + 1 := ⟨n - 1, by omega⟩
        have ek2 : (nI (gg_cl g (qs i) * 2)).toNatClampNeg = gg_cl g (qs i) * 2 := hh_cl (by omega)
        have ek3 : (nI (gg_cl g (qs i) * 2 + 1)).toNatClampNeg = gg_cl g (qs i) * 2 + 1 := hh_cl (by omega)
        have v2 : vp_in (nI (gg_cl g (qs i) * 2)) 1024 := vp_in_nI (by omega) (by omega)
        have v3 : vp_in (nI (gg_cl g (qs i) * 2 + 1)) 1024 := vp_in_nI (by omega) (by omega)
        refine br_f ?_ (br_f (nI_ge (b := 24) (by omega) (by omega)) (And.intro (vp_in_nI (by omega) (by omega)) (nm_r (e' := nI (gg_cl g (qs i) * 2)) ?_ (And.intro v2 ?_))))
        · show ¬ hs_qd s ≤ nI i
          rw [E.2.1]
          exact nI_ge hi (by omega)
        · show hs_qu s (nI i).toNatClampNeg * 2 = _
          rw [hh_cl (by omega), a.1]
          exact pk_mul _ 2
        · rw [ek2]
          refine W1 _ ?_
          refine And.intro v2 (nm_e (And.intro (by rw [nI_1]; exact v3) ?_))
          rw [nI_1 (gg_cl g (qs i) * 2), ek3]
          refine W2 _ ?_
          exact And.intro v3 (nm_e (nm_r (nI_1 i) (W' n post (by omega) H)))
    · have e : i = q := by omega
      subst e
      refine ⟨s, g, ow, vw, i, qs, E, ext_refl g, fun p _ hp => ⟨rfl, hp⟩, fun n post hn H => ?_⟩
      obtain ⟨n, rfl⟩ : ∃ n', n = n' + 1 := ⟨n - 1, by omega⟩
      refine br_t ?_ H
      show hs_qd s ≤ nI i
      rw [E.2.1]
      exact nI_le (Nat.le_refl _) (by omega)
theorem x_evacF (O : hh_OD nd an bd dp hd sv h) (hM : ∀ p f, th p → M p → f < 2 → M (fd (2 * p + f))) (E : hh_EP s g nd an bd th fd va dp ow0 ow vw M sv h 0 q qs) :
    ∃ (s' : HST) (g' : HG) (ow' vw' : Nat → Nat) (q' : Nat) (qs' : Nat → Nat), hh_EP s' g' nd an bd th fd va dp ow0 ow' vw' M sv h q' q' qs' ∧ hh_Ext g g' ∧
      (∀ p, th p → ow p = h → gg_cl g' p = gg_cl g p ∧ ow' p = h) ∧
      ∀ post : SX → Prop, post (hh_X nl lb ld cc cs ct (nI oN) (nI tN) (nI dN) oc lv pa ch rg hd mk s') → wpX_evacuateFields post (hh_X nl lb ld cc cs ct (nI oN) (nI tN) (nI dN) oc lv pa ch rg hd mk s) (nI h) := by
  obtain ⟨s', g', ow', vw', q', qs', E', X', P', W'⟩ := x_evf (nl := nl) (lb := lb) (ld := ld) (cc := cc) (cs := cs) (ct := ct) (oN := oN) (tN := tN) (dN := dN) (oc := oc) (lv := lv) (pa := pa) (ch := ch) (rg := rg) (hd := hd) (mk := mk) O hM 24 0 q s g ow vw qs (by omega) E
  exact ⟨s', g', ow', vw', q', qs', E', X', P', fun post H => ⟨25, W' 25 post (by omega) H⟩⟩
end
end
section
/-! the reference's marks: clear, spread, from a task -/
def hh_Cl (fd : Nat → Nat) (S : Nat → Prop) : Prop := ∀ x, 1 ≤ x → S x → S (fd (2 * x)) ∧ S (fd (2 * x + 1))
/-- bm marks the least closed set over the roots rt -/
def hh_MK (fd : Nat → Nat) (bm : Nat → Int32) (rt : Nat → Prop) : Prop :=
  (∀ x, rt x → bm x ≠ 0) ∧ (∀ x, 1 ≤ x → x < 25 → bm x ≠ 0 → bm (fd (2 * x)) ≠ 0 ∧ bm (fd (2 * x + 1)) ≠ 0) ∧
  (∀ S : Nat → Prop, hh_Cl fd S → (∀ x, rt x → S x) → ∀ o, o < 25 → bm o ≠ 0 → S o)
theorem hh_b1 : vp_nar .boolean 1 = 1 := rfl
theorem hh_b0 : vp_nar .boolean 0 = 0 := rfl
theorem up_ne {bm : Nat → Int32} {k j : Nat} (h : bm j ≠ 0) : upd bm k 1 j ≠ 0 := by
  by_cases e : j = k
  · subst e; rw [pk_us]; decide
  · rw [pk_un e]; exact h
theorem up_ne' {bm : Nat → Int32} {k : Nat} : upd bm k 1 k ≠ 0 := by rw [pk_us]; decide
theorem up_or {bm : Nat → Int32} {k j : Nat} (h : upd bm k 1 j ≠ 0) : j = k ∨ bm j ≠ 0 := by
  by_cases e : j = k
  · exact Or.inl e
  · rw [pk_un e] at h; exact Or.inr h
section
variable {oN tN dN : Nat} {lv pa : Nat → Int32} {fd : Nat → Nat}
variable {bt bo bv bf bm br : Nat → Int32}
theorem y_clr2 : ∀ (d i : Nat) (bm : Nat → Int32), i + d = 25 → (∀ j, j < i → bm j = 0) → ∃ bm' : Nat → Int32, (∀ j, j < 25 → bm' j = 0) ∧
    ∀ (n : Nat) (post : SY → Prop), d < n → post ((nI oN), (nI tN), (nI dN), bt, bo, bv, bf, bm', lv, pa, br) → wY_clearMarks_2 post (nI oN) (nI tN) (nI dN) n (nI i) bt bo bv bf bm lv pa br := by
  intro d
  induction d with
  | zero =>
    intro i bm hi h
    refine ⟨bm, fun j hj => h j (by omega), fun n post hn H => ?_⟩
    obtain ⟨n, rfl⟩ : ∃ n', n = n' + 1 := ⟨n - 1, by omega⟩
    exact br_t (nI_le (a := 25) (by omega) (by omega)) H
  | succ d ih =>
    intro i bm hi h
    obtain ⟨bm', h', W⟩ := ih (i + 1) (upd bm i 0) (by omega) (fun j hj => by
      by_cases e : j = i
      · subst e; exact pk_us
      · rw [pk_un e]; exact h j (by omega))
    refine ⟨bm', h', fun n post hn H => ?_⟩
    obtain ⟨n, rfl⟩ : ∃ n', n = n' + 1 := ⟨n - 1, by omega⟩
    refine br_f (nI_ge (b := 25) (by omega) (by omega)) (And.intro (vp_in_nI (by omega) (by omega)) (nm_r (e' := upd bm i 0) ?_ (nm_r (nI_1 i) (W n post (by omega) H))))
    rw [hh_cl (by omega), hh_b0]
theorem y_clr : ∃ bm' : Nat → Int32, (∀ j, j < 25 → bm' j = 0) ∧ ∀ post : SY → Prop, post ((nI oN), (nI tN), (nI dN), bt, bo, bv, bf, bm', lv, pa, br) → wpY_clearMarks post ((nI oN), (nI tN), (nI dN), bt, bo, bv, bf, bm, lv, pa, br) := by
  obtain ⟨bm', h, W⟩ := y_clr2 (oN := oN) (tN := tN) (dN := dN) (bt := bt) (bo := bo) (bv := bv) (bf := bf) (lv := lv) (pa := pa) (br := br) 25 0 bm (by omega) (fun j hj => by omega)
  exact ⟨bm', h, fun post H => ⟨26, W 26 post (by omega) H⟩⟩
theorem y_sp10 (hfd : ∀ j, fd j < 25) : ∀ (d i : Nat) (bm : Nat → Int32), i + d = 25 → 1 ≤ i → ∃ bm' : Nat → Int32, (∀ o, bm o ≠ 0 → bm' o ≠ 0) ∧
    (∀ o, i ≤ o → o < 25 → bm o ≠ 0 → bm' (fd (2 * o)) ≠ 0 ∧ bm' (fd (2 * o + 1)) ≠ 0) ∧
    (∀ S : Nat → Prop, hh_Cl fd S → (∀ o, o < 25 → bm o ≠ 0 → S o) → ∀ o, o < 25 → bm' o ≠ 0 → S o) ∧
    ∀ (n : Nat) (post : SY → Prop) (J : Int32 → (Nat → Int32) → (Nat → Int32) → (Nat → Int32) → (Nat → Int32) → (Nat → Int32) → (Nat → Int32) → (Nat → Int32) → (Nat → Int32) → Prop) (x1 : Int32), d < n →
      J (x1 + 1) bt bo bv (fun j => nI (fd j)) bm' lv pa br → wY_spreadMarks_10 post J x1 (nI oN) (nI tN) (nI dN) n (nI i) bt bo bv (fun j => nI (fd j)) bm lv pa br := by
  intro d
  induction d with
  | zero =>
    intro i bm hi h1
    refine ⟨bm, fun o h => h, fun o a b => by omega, fun S _ h => h, fun n post J x1 hn H => ?_⟩
    obtain ⟨n, rfl⟩ : ∃ n', n = n' + 1 := ⟨n - 1, by omega⟩
    exact br_t (nI_le (a := 25) (by omega) (by omega)) (nm_e H)
  | succ d ih =>
    intro i bm hi h1
    by_cases z : bm i = 0
    · obtain ⟨bm', m, c, so, W⟩ := ih (i + 1) bm (by omega) (by omega)
      refine ⟨bm', m, fun o a b hb => ?_, so, fun n post J x1 hn H => ?_⟩
      · exact c o (by
          have : o ≠ i := fun e => by rw [e] at hb; exact hb z
          omega) b hb
      · obtain ⟨n, rfl⟩ : ∃ n', n = n' + 1 := ⟨n - 1, by omega⟩
        refine br_f (nI_ge (b := 25) (by omega) (by omega)) (And.intro (vp_in_nI (by omega) (by omega)) (br_t ?_ (nm_r (nI_1 i) (W n post J x1 (by omega) H))))
        rw [hh_cl (by omega)]; exact z
    · have f0 := hfd (2 * i)
      have f1 := hfd (2 * i + 1)
      obtain ⟨bm', m, c, so, W⟩ := ih (i + 1) (upd (upd bm (fd (2 * i)) 1) (fd (2 * i + 1)) 1) (by omega) (by omega)
      refine ⟨bm', fun o h => m o (up_ne (up_ne h)), fun o a b hb => ?_, fun S hS h => so S hS ?_, fun n post J x1 hn H => ?_⟩
      · by_cases e : o = i
        · subst e
          exact ⟨m _ (up_ne up_ne'), m _ up_ne'⟩
        · exact c o (by omega) b (up_ne (up_ne hb))
      · intro o ho hb
        have si := hS i h1 (h i (by omega) z)
        rcases up_or hb with e | hb
        · rw [e]; exact si.2
        · rcases up_or hb with e | hb
          · rw [e]; exact si.1
          · exact h o ho hb
      · obtain ⟨n, rfl⟩ : ∃ n', n = n' + 1 := ⟨n - 1, by omega⟩
        have e2 : (2 : Int32) * nI i = nI (2 * i) := pk_mul 2 i
        have e3 : (nI (2 * i)).toNatClampNeg = 2 * i := hh_cl (by omega)
        have e4 : (nI (2 * i + 1)).toNatClampNeg = 2 * i + 1 := hh_cl (by omega)
        have e5 : (nI (fd (2 * i))).toNatClampNeg = fd (2 * i) := hh_cl (by omega)
        have e6 : (nI (fd (2 * i + 1))).toNatClampNeg = fd (2 * i + 1) := hh_cl (by omega)
        refine br_f (nI_ge (b := 25) (by omega) (by omega)) (And.intro (vp_in_nI (by omega) (by omega)) (br_f ?_ ?_))
        · rw [hh_cl (by omega)]; exact z
        · rw [e2, nI_1 (2 * i), e3, e4, e5, e6]
          exact And.intro (vp_in_nI (by omega) (by omega)) (And.intro (vp_in_nI f0 (by omega)) (nm_e (And.intro (vp_in_nI (by omega) (by omega)) (And.intro (vp_in_nI f1 (by omega)) (nm_e (nm_r (nI_1 i) (W n post J x1 (by omega) H)))))))
theorem y_sp2 (hfd : ∀ j, fd j < 25) : ∀ (d k : Nat) (bm : Nat → Int32), k + d = 25 →
    ((∀ x, 1 ≤ x → x < 25 → bm x ≠ 0 → bm (fd (2 * x)) ≠ 0 ∧ bm (fd (2 * x + 1)) ≠ 0) ∨ k ≤ hh_cn (fun o => bm o ≠ 0) 25) → ∃ bm' : Nat → Int32, (∀ o, bm o ≠ 0 → bm' o ≠ 0) ∧
    (∀ x, 1 ≤ x → x < 25 → bm' x ≠ 0 → bm' (fd (2 * x)) ≠ 0 ∧ bm' (fd (2 * x + 1)) ≠ 0) ∧
    (∀ S : Nat → Prop, hh_Cl fd S → (∀ o, o < 25 → bm o ≠ 0 → S o) → ∀ o, o < 25 → bm' o ≠ 0 → S o) ∧
    ∀ (n : Nat) (post : SY → Prop), d < n → post ((nI oN), (nI tN), (nI dN), bt, bo, bv, (fun j => nI (fd j)), bm', lv, pa, br) → wY_spreadMarks_2 post (nI oN) (nI tN) (nI dN) n (nI k) bt bo bv (fun j => nI (fd j)) bm lv pa br := by
  intro d
  induction d with
  | zero =>
    intro k bm hk hc
    refine ⟨bm, fun o h => h, ?_, fun S _ h => h, fun n post hn H => ?_⟩
    · rcases hc with hc | hc
      · exact hc
      · intro x _ _ _
        have a := cn_all (p := fun o => bm o ≠ 0) (n := 25) (by omega)
        exact ⟨a _ (hfd _), a _ (hfd _)⟩
    · obtain ⟨n, rfl⟩ : ∃ n', n = n' + 1 := ⟨n - 1, by omega⟩
      exact br_t (nI_le (a := 25) (by omega) (by omega)) H
  | succ d ih =>
    intro k bm hk hc
    obtain ⟨b1, m1, c1, s1, W1⟩ := y_sp10 (oN := oN) (tN := tN) (dN := dN) (bt := bt) (bo := bo) (bv := bv) (lv := lv) (pa := pa) (br := br) hfd 24 1 bm (by omega) (by omega)
    have same : (∀ o, o < 25 → b1 o ≠ 0 → bm o ≠ 0) → ∀ x, 1 ≤ x → x < 25 → b1 x ≠ 0 → b1 (fd (2 * x)) ≠ 0 ∧ b1 (fd (2 * x + 1)) ≠ 0 := fun h x h1 h2 h3 => c1 x h1 h2 (h x h2 h3)
    have next : (∀ x, 1 ≤ x → x < 25 → b1 x ≠ 0 → b1 (fd (2 * x)) ≠ 0 ∧ b1 (fd (2 * x + 1)) ≠ 0) ∨ k + 1 ≤ hh_cn (fun o => b1 o ≠ 0) 25 := by
      rcases hc with hc | hc
      · left
        refine same (fun o ho hb => ?_)
        have := s1 (fun x => x < 25 ∧ bm x ≠ 0) (fun x h1 h2 => ⟨⟨hfd _, (hc x h1 h2.1 h2.2).1⟩, ⟨hfd _, (hc x h1 h2.1 h2.2).2⟩⟩) (fun o ho hb => ⟨ho, hb⟩) o ho hb
        exact this.2
      · by_cases q : hh_cn (fun o => b1 o ≠ 0) 25 ≤ hh_cn (fun o => bm o ≠ 0) 25
        · left
          exact same (cn_same (p := fun o => bm o ≠ 0) (q := fun o => b1 o ≠ 0) 25 (fun i _ h => m1 i h) q)
        · right; omega
    obtain ⟨bm', m, c, so, W⟩ := ih (k + 1) b1 (by omega) next
    refine ⟨bm', fun o h => m o (m1 o h), c, fun S hS h => so S hS (s1 S hS h), fun n post hn H => ?_⟩
    obtain ⟨n, rfl⟩ : ∃ n', n = n' + 1 := ⟨n - 1, by omega⟩
    refine br_f (nI_ge (b := 25) (by omega) (by omega)) ⟨25, W1 25 post _ (nI k) (by omega) ?_⟩
    rw [nI_1]
    exact W n post (by omega) H
theorem y_spread (hfd : ∀ j, fd j < 25) (rt : Nat → Prop) (h1 : ∀ x, rt x → bm x ≠ 0) (h2 : ∀ x, x < 25 → bm x ≠ 0 → rt x) : ∃ bm' : Nat → Int32, hh_MK fd bm' rt ∧
    ∀ post : SY → Prop, post ((nI oN), (nI tN), (nI dN), bt, bo, bv, (fun j => nI (fd j)), bm', lv, pa, br) → wpY_spreadMarks post ((nI oN), (nI tN), (nI dN), bt, bo, bv, (fun j => nI (fd j)), bm, lv, pa, br) := by
  obtain ⟨bm', m, c, so, W⟩ := y_sp2 (oN := oN) (tN := tN) (dN := dN) (bt := bt) (bo := bo) (bv := bv) (lv := lv) (pa := pa) (br := br) hfd 25 0 bm (by omega) (Or.inr (Nat.zero_le _))
  exact ⟨bm', ⟨fun x h => m x (h1 x h), c, fun S hS h => so S hS (fun o ho hb => h o (h2 o ho hb))⟩, fun post H => ⟨26, W 26 post (by omega) H⟩⟩
theorem y_mft6 (hfd : ∀ j, fd j < 25) {rgN : Nat → Nat} (hrg : ∀ j, rgN j < 25) {t : Nat} (ht : t < 8) : ∀ (d i : Nat) (bm : Nat → Int32), i + d = 4 →
    (∀ r, r < i → bm (rgN (t * 4 + r)) ≠ 0) → (∀ x, x < 25 → bm x ≠ 0 → ∃ r, r < i ∧ x = rgN (t * 4 + r)) → ∃ bm' : Nat → Int32, hh_MK fd bm' (fun x => ∃ r, r < 4 ∧ x = rgN (t * 4 + r)) ∧
    ∀ (n : Nat) (post : SY → Prop), d < n → post ((nI oN), (nI tN), (nI dN), bt, bo, bv, (fun j => nI (fd j)), bm', lv, pa, (fun j => nI (rgN j))) → wY_markFromTask_6 post (nI t) (nI oN) (nI tN) (nI dN) n (nI i) bt bo bv (fun j => nI (fd j)) bm lv pa (fun j => nI (rgN j)) := by
  intro d
  induction d with
  | zero =>
    intro i bm hi h1 h2
    have e : i = 4 := by omega
    subst e
    obtain ⟨bm', K, W⟩ := y_spread (oN := oN) (tN := tN) (dN := dN) (bt := bt) (bo := bo) (bv := bv) (lv := lv) (pa := pa) (br := (fun j => nI (rgN j))) (bm := bm) hfd (fun x => ∃ r, r < 4 ∧ x = rgN (t * 4 + r)) (fun x ⟨r, hr, e⟩ => by rw [e]; exact h1 r hr) h2
    refine ⟨bm', K, fun n post hn H => ?_⟩
    obtain ⟨n, rfl⟩ : ∃ n', n = n' + 1 := ⟨n - 1, by omega⟩
    refine br_t (nI_le (a := 4) (by omega) (by omega)) (W _ ?_)
    exact H
  | succ d ih =>
    intro i bm hi h1 h2
    have r5 := hrg (t * 4 + i)
    obtain ⟨bm', K, W⟩ := ih (i + 1) (upd bm (rgN (t * 4 + i)) 1) (by omega) (fun r hr => by
        by_cases e : r = i
        · subst e; exact up_ne'
        · exact up_ne (h1 r (by omega))) (fun x hx hb => by
        rcases up_or hb with e | hb
        · exact ⟨i, by omega, e⟩
        · obtain ⟨r, hr, e⟩ := h2 x hx hb
          exact ⟨r, by omega, e⟩)
    refine ⟨bm', K, fun n post hn H => ?_⟩
    obtain ⟨n, rfl⟩ : ∃ n', n = n' + 1 := ⟨n - 1, by omega⟩
    have ix := hh_ix (t := t) (r := i) ht (by omega)
    have e1 : (nI (t * 4 + i)).toNatClampNeg = t * 4 + i := hh_cl (by omega)
    have e2 : (nI (rgN (t * 4 + i))).toNatClampNeg = rgN (t * 4 + i) := hh_cl (by omega)
    refine br_f (nI_ge (b := 4) (by omega) (by omega)) ?_
    rw [ix.1, e1, e2]
    exact And.intro (vp_in_nI ix.2 (by omega)) (And.intro (vp_in_nI r5 (by omega)) (nm_e (nm_r (nI_1 i) (W n post (by omega) H))))
theorem y_mft (hfd : ∀ j, fd j < 25) {rgN : Nat → Nat} (hrg : ∀ j, rgN j < 25) {t : Nat} (ht : t < 8) : ∃ bm' : Nat → Int32, hh_MK fd bm' (fun x => ∃ r, r < 4 ∧ x = rgN (t * 4 + r)) ∧
    ∀ post : SY → Prop, post ((nI oN), (nI tN), (nI dN), bt, bo, bv, (fun j => nI (fd j)), bm', lv, pa, (fun j => nI (rgN j))) → wpY_markFromTask post ((nI oN), (nI tN), (nI dN), bt, bo, bv, (fun j => nI (fd j)), bm, lv, pa, (fun j => nI (rgN j))) (nI t) := by
  obtain ⟨b0, z, W0⟩ := y_clr (oN := oN) (tN := tN) (dN := dN) (bt := bt) (bo := bo) (bv := bv) (bf := (fun j => nI (fd j))) (bm := bm) (lv := lv) (pa := pa) (br := (fun j => nI (rgN j)))
  obtain ⟨bm', K, W⟩ := y_mft6 (oN := oN) (tN := tN) (dN := dN) (bt := bt) (bo := bo) (bv := bv) (lv := lv) (pa := pa) hfd hrg ht 4 0 b0 (by omega) (fun r hr => by omega) (fun x hx hb => absurd (z x hx) hb)
  refine ⟨bm', K, fun post H => ?_⟩
  unfold wpY_markFromTask
  refine W0 _ ?_
  exact ⟨5, W 5 post (by omega) H⟩
end
end
section
/-! walks of splice and freeLimbo -/
section
variable {nl lb ld cc cs ct oc : Int32} {oN tN dN : Nat} {lv pa ch rg hd mk : Nat → Int32} {s : HST}
variable {a b : Nat}
theorem x_sp10 (hb : b ≤ 8) : ∀ (l : List Nat) (x : Int32) (i : Nat) (kh : Nat → Int32), hh_LC (hs_nx s) x l → (∀ k, k ∈ l → k < 128) → i + l.length ≤ 128 →
    ∃ kh' : Nat → Int32, (∀ k, k ∈ l → kh' k = nI b) ∧ (∀ k, k ∉ l → kh' k = kh k) ∧
    ∀ (n : Nat) (post : SX → Prop), l.length < n → wX_splice_42 post (nI a) (nI b) nl lb ld cc cs ct (nI oN) (nI tN) (nI dN) oc (hs_fr s) (hs_qd s) lv pa ch rg hd (hs_ho s) (hs_fc s) (hs_lc s) kh' (hs_kf s) (hs_nx s) (hs_cv s) (hs_fw s) (hs_cf s) mk (hs_qu s) → wX_splice_10 post (nI a) (nI b) nl lb ld cc cs ct (nI oN) (nI tN) (nI dN) oc (hs_fr s) (hs_qd s) n x (nI i) lv pa ch rg hd (hs_ho s) (hs_fc s) (hs_lc s) kh (hs_kf s) (hs_nx s) (hs_cv s) (hs_fw s) (hs_cf s) mk (hs_qu s) := by
  intro l
  induction l with
  | nil =>
    intro x i kh h _ hi
    refine ⟨kh, fun k hk => by simp at hk, fun _ _ => rfl, fun n post hn H => ?_⟩
    obtain ⟨n, rfl⟩ : ∃ n', n = n' + 1 := ⟨n - 1, by omega⟩
    have e := lc_n.mp h
    subst e
    exact br_c (fun _ => H) (fun _ => br_t hh_m1 H)
  | cons k l ih =>
    intro x i kh h hl hi
    have h' := lc_c.mp h
    have k1 := hl k List.mem_cons_self
    have len : (k :: l).length = l.length + 1 := rfl
    obtain ⟨kh', c1, c2, W⟩ := ih (hs_nx s k) (i + 1) (upd kh k (nI b)) h'.2 (fun j hj => hl j (List.mem_cons_of_mem k hj)) (by omega)
    refine ⟨kh', fun j hj => ?_, fun j hj => ?_, fun n post hn H => ?_⟩
    · by_cases m : j ∈ l
      · exact c1 j m
      · rcases List.mem_cons.mp hj with e | e
        · rw [c2 j m, e, pk_us]
        · exact absurd e m
    · rw [c2 j (fun z => hj (List.mem_cons_of_mem k z)), pk_un (fun z => hj (List.mem_cons.mpr (Or.inl z)))]
    · obtain ⟨n, rfl⟩ : ∃ n', n = n' + 1 := ⟨n - 1, by omega⟩
      have ek : (nI k).toNatClampNeg = k := hh_cl (by omega)
      have e := h'.1
      subst e
      have vk : vp_in (nI k) 128 := vp_in_nI k1 (by omega)
      refine br_f (nI_ge (b := 128) (by omega) (by omega)) (br_f (nI_pos (by omega)) (And.intro vk (nm_r (e' := upd kh k (nI b)) (by rw [ek]) (And.intro vk (nm_r (e' := hs_nx s k) (by rw [ek]) (nm_r (nI_1 i) (W n post (by omega) H)))))))
theorem x_s104 (ha : a ≤ 8) (hb : b ≤ 8) {post : SX → Prop} (H : post (hh_X nl lb ld cc cs ct (nI oN) (nI tN) (nI dN) oc lv pa ch rg hd mk (hs_fr s, hs_qd s, upd (upd (hs_ho s) b (hs_ho s b + hs_ho s a)) a 0, upd (hs_fc s) a (-1), upd (hs_lc s) a (-1), hs_kh s, hs_kf s, hs_nx s, hs_cv s, hs_fw s, hs_cf s, hs_qu s))) : wX_splice_104 post (nI a) (nI b) nl lb ld cc cs ct (nI oN) (nI tN) (nI dN) oc (hs_fr s) (hs_qd s) lv pa ch rg hd (hs_ho s) (hs_fc s) (hs_lc s) (hs_kh s) (hs_kf s) (hs_nx s) (hs_cv s) (hs_fw s) (hs_cf s) mk (hs_qu s) := by
  have va : vp_in (nI a) 9 := vp_in_nI (by omega) (by omega)
  have vb : vp_in (nI b) 9 := vp_in_nI (by omega) (by omega)
  have ea : (nI a).toNatClampNeg = a := hh_cl (by omega)
  have eb : (nI b).toNatClampNeg = b := hh_cl (by omega)
  refine And.intro vb (And.intro va (And.intro vb (nm_r (e' := upd (hs_ho s) b (hs_ho s b + hs_ho s a)) (by rw [ea, eb]) ?_)))
  exact x_clr (s := (hs_fr s, hs_qd s, upd (hs_ho s) b (hs_ho s b + hs_ho s a), hs_fc s, hs_lc s, hs_kh s, hs_kf s, hs_nx s, hs_cv s, hs_fw s, hs_cf s, hs_qu s)) ha H
theorem x_s92 (ha : a ≤ 8) (hb : b ≤ 8) {post : SX → Prop} (H : post (hh_X nl lb ld cc cs ct (nI oN) (nI tN) (nI dN) oc lv pa ch rg hd mk (hs_fr s, hs_qd s, upd (upd (hs_ho s) b (hs_ho s b + hs_ho s a)) a 0, upd (hs_fc s) a (-1), upd (upd (hs_lc s) b (hs_lc s a)) a (-1), hs_kh s, hs_kf s, hs_nx s, hs_cv s, hs_fw s, hs_cf s, hs_qu s))) : wX_splice_92 post (nI a) (nI b) nl lb ld cc cs ct (nI oN) (nI tN) (nI dN) oc (hs_fr s) (hs_qd s) lv pa ch rg hd (hs_ho s) (hs_fc s) (hs_lc s) (hs_kh s) (hs_kf s) (hs_nx s) (hs_cv s) (hs_fw s) (hs_cf s) mk (hs_qu s) := by
  have va : vp_in (nI a) 9 := vp_in_nI (by omega) (by omega)
  have vb : vp_in (nI b) 9 := vp_in_nI (by omega) (by omega)
  have ea : (nI a).toNatClampNeg = a := hh_cl (by omega)
  have eb : (nI b).toNatClampNeg = b := hh_cl (by omega)
  refine And.intro va (And.intro vb (nm_r (e' := upd (hs_lc s) b (hs_lc s a)) (by rw [ea, eb]) ?_))
  exact x_s104 (s := (hs_fr s, hs_qd s, hs_ho s, hs_fc s, upd (hs_lc s) b (hs_lc s a), hs_kh s, hs_kf s, hs_nx s, hs_cv s, hs_fw s, hs_cf s, hs_qu s)) ha hb H
theorem x_splice {us : Nat → Prop} {hp hp' : Nat → Nat} (S : hh_CS (hs_fc s) (hs_lc s) (hs_kh s) (hs_kf s) (hs_nx s) (hs_fr s) us hp) (ha : a ≤ 8) (hb : b ≤ 8) (hab : a ≠ b)
    (p1 : ∀ c, us c → hp c = a → hp' c = b) (p2 : ∀ c, us c → hp c ≠ a → hp' c = hp c) :
    ∃ fc lc kh nx : Nat → Int32, hh_CS fc lc kh (hs_kf s) nx (hs_fr s) us hp' ∧
      ∀ post : SX → Prop, post (hh_X nl lb ld cc cs ct (nI oN) (nI tN) (nI dN) oc lv pa ch rg hd mk (hs_fr s, hs_qd s, upd (upd (hs_ho s) b (hs_ho s b + hs_ho s a)) a 0, fc, lc, kh, hs_kf s, nx, hs_cv s, hs_fw s, hs_cf s, hs_qu s)) → wpX_splice post (hh_X nl lb ld cc cs ct (nI oN) (nI tN) (nI dN) oc lv pa ch rg hd mk s) (nI a) (nI b) := by
  obtain ⟨ch', fl, L, W⟩ := S
  have va : vp_in (nI a) 9 := vp_in_nI (by omega) (by omega)
  have vb : vp_in (nI b) 9 := vp_in_nI (by omega) (by omega)
  have ea : (nI a).toNatClampNeg = a := hh_cl (by omega)
  have eb : (nI b).toNatClampNeg = b := hh_cl (by omega)
  have A := W.2.1 a ha
  have B := W.2.1 b hb
  obtain ⟨kh, c1, c2, W10⟩ := x_sp10 (s := s) (a := a) (nl := nl) (lb := lb) (ld := ld) (cc := cc) (cs := cs) (ct := ct) (oN := oN) (tN := tN) (dN := dN) (oc := oc) (lv := lv) (pa := pa) (ch := ch) (rg := rg) (hd := hd) (mk := mk) hb (L a) (hs_fc s a) 0 (hs_kh s) A.1 (fun k hk => (((W.1 a (by omega)).2 k).mp hk).1) (by have := cs_len W (h := a) (by omega); omega)
  by_cases za : L a = []
  · have fa := A.1
    rw [za] at fa
    have fa := lc_n.mp fa
    refine ⟨upd (hs_fc s) a (-1), upd (hs_lc s) a (-1), kh, hs_nx s, cs_splice W ha hb hab pk_us (fun zb => ?_) (fun zb => ?_) (fun j h1 h2 => pk_un h1) (fun z => absurd za z) (fun _ => ?_) (fun j h1 h2 => pk_un h1) c1 c2 (fun _ => rfl) (fun z => absurd za z) p1 p2, fun post H => ?_⟩
    · have fb := B.1
      rw [zb] at fb
      have fb := lc_n.mp fb
      rw [pk_un (fun z => hab z.symm), fa, fb]
    · exact pk_un (fun z => hab z.symm)
    · exact pk_un (fun z => hab z.symm)
    · refine And.intro va (nm_r (e' := hs_fc s a) (by rw [ea]) ⟨(L a).length + 1, W10 _ post (by omega) ?_⟩)
      refine And.intro va (br_t ?_ ?_)
      · rw [ea, fa]; exact hh_m1
      · exact x_s104 (s := (hs_fr s, hs_qd s, hs_ho s, hs_fc s, hs_lc s, kh, hs_kf s, hs_nx s, hs_cv s, hs_fw s, hs_cf s, hs_qu s)) ha hb H
  · have fa : ¬ hs_fc s a < 0 := by
      have fa := A.1
      cases e : L a with
      | nil => exact absurd e za
      | cons k l =>
        rw [e] at fa
        have k1 := (((W.1 a (by omega)).2 k).mp (by rw [e]; exact List.mem_cons_self)).1
        rw [(lc_c.mp fa).1]
        exact nI_pos (by omega)
    by_cases zb : L b = []
    · have fb := B.1
      rw [zb] at fb
      have fb := lc_n.mp fb
      refine ⟨upd (upd (hs_fc s) b (hs_fc s a)) a (-1), upd (upd (hs_lc s) b (hs_lc s a)) a (-1), kh, hs_nx s, cs_splice W ha hb hab pk_us (fun _ => ?_) (fun z => absurd zb z) (fun j h1 h2 => ?_) (fun _ => ?_) (fun z => absurd z za) (fun j h1 h2 => ?_) c1 c2 (fun _ => rfl) (fun _ k hk => ?_) p1 p2, fun post H => ?_⟩
      · rw [pk_un (fun z => hab z.symm), pk_us]
      · rw [pk_un h1, pk_un h2]
      · rw [pk_un (fun z => hab z.symm), pk_us]
      · rw [pk_un h1, pk_un h2]
      · rw [zb] at hk; simp at hk
      · refine And.intro va (nm_r (e' := hs_fc s a) (by rw [ea]) ⟨(L a).length + 1, W10 _ post (by omega) ?_⟩)
        refine And.intro va (br_f (by rw [ea]; exact fa) (And.intro vb (br_f (by rw [eb, fb]; exact hh_m1') (And.intro va (And.intro vb (nm_r (e' := upd (hs_fc s) b (hs_fc s a)) (by rw [ea, eb]) ?_))))))
        exact x_s92 (s := (hs_fr s, hs_qd s, hs_ho s, upd (hs_fc s) b (hs_fc s a), hs_lc s, kh, hs_kf s, hs_nx s, hs_cv s, hs_fw s, hs_cf s, hs_qu s)) ha hb H
    · have fb : 0 ≤ hs_fc s b := by
        have fb := B.1
        cases e : L b with
        | nil => exact absurd e zb
        | cons k l =>
          rw [e] at fb
          have k1 := (((W.1 b (by omega)).2 k).mp (by rw [e]; exact List.mem_cons_self)).1
          rw [(lc_c.mp fb).1]
          exact nI_pos' (by omega)
      obtain ⟨k, hk⟩ := lc_last (L b) zb
      have lk := B.2 k hk
      have k1 := (((W.1 b (by omega)).2 k).mp (List.mem_of_getLast? hk)).1
      refine ⟨upd (hs_fc s) a (-1), upd (upd (hs_lc s) b (hs_lc s a)) a (-1), kh, upd (hs_nx s) k (hs_fc s a), cs_splice W ha hb hab pk_us (fun z => absurd z zb) (fun _ => ?_) (fun j h1 h2 => pk_un h1) (fun _ => ?_) (fun z => absurd z za) (fun j h1 h2 => ?_) c1 c2 (fun z => absurd z (fun w => w.elim za zb)) (fun _ k' hk' => ?_) p1 p2, fun post H => ?_⟩
      · exact pk_un (fun z => hab z.symm)
      · rw [pk_un (fun z => hab z.symm), pk_us]
      · rw [pk_un h1, pk_un h2]
      · rw [hk] at hk'
        have e : k = k' := by simpa using hk'
        rw [e]
      · refine And.intro va (nm_r (e' := hs_fc s a) (by rw [ea]) ⟨(L a).length + 1, W10 _ post (by omega) ?_⟩)
        refine And.intro va (br_f (by rw [ea]; exact fa) (And.intro vb (br_t (by rw [eb]; exact fb) (And.intro vb (And.intro va (And.intro ?_ (nm_r (e' := upd (hs_nx s) k (hs_fc s a)) ?_ ?_)))))))
        · rw [eb, lk]; exact vp_in_nI k1 (by omega)
        · rw [ea, eb, lk, hh_cl (by omega)]
        · exact x_s92 (s := (hs_fr s, hs_qd s, hs_ho s, hs_fc s, hs_lc s, kh, hs_kf s, upd (hs_nx s) k (hs_fc s a), hs_cv s, hs_fw s, hs_cf s, hs_qu s)) ha hb H
theorem x_flimbo {us : Nat → Prop} {hp : Nat → Nat} (S : hh_CS (hs_fc s) (hs_lc s) (hs_kh s) (hs_kf s) (hs_nx s) (hs_fr s) us hp) :
    ∃ (fc lc nx : Nat → Int32) (fr : Int32), hh_CS fc lc (hs_kh s) (hs_kf s) nx fr (fun c => us c ∧ hp c ≠ 8) hp ∧
      ∀ post : SX → Prop, post (hh_X nl lb ld cc cs ct (nI oN) (nI tN) (nI dN) oc lv pa ch rg hd mk (fr, hs_qd s, upd (hs_ho s) 8 0, fc, lc, hs_kh s, hs_kf s, nx, hs_cv s, hs_fw s, hs_cf s, hs_qu s)) → wpX_freeLimbo post (hh_X nl lb ld cc cs ct (nI oN) (nI tN) (nI dN) oc lv pa ch rg hd mk s) := by
  obtain ⟨ch', fl, L, W⟩ := S
  have A := W.2.1 8 (by omega)
  by_cases za : L 8 = []
  · have fa := A.1
    rw [za] at fa
    have fa := lc_n.mp fa
    refine ⟨upd (hs_fc s) 8 (-1), upd (hs_lc s) 8 (-1), hs_nx s, hs_fr s, cs_flimbo W pk_us (fun j h => pk_un h) (fun j h => pk_un h) (fun _ => ⟨rfl, rfl⟩) (fun k hk => ?_), fun post H => ?_⟩
    · rw [za] at hk; simp at hk
    · refine br_t ?_ ?_
      · show hs_fc s 8 < 0
        rw [fa]; exact hh_m1
      · exact x_clr (s := s) (h := 8) (by omega) H
  · obtain ⟨k, hk⟩ := lc_last (L 8) za
    have lk := A.2 k hk
    have k1 := (((W.1 8 (by omega)).2 k).mp (List.mem_of_getLast? hk)).1
    have fa : ¬ hs_fc s 8 < 0 := by
      have fa := A.1
      cases e : L 8 with
      | nil => exact absurd e za
      | cons k l =>
        rw [e] at fa
        have k1 := (((W.1 8 (by omega)).2 k).mp (by rw [e]; exact List.mem_cons_self)).1
        rw [(lc_c.mp fa).1]
        exact nI_pos (by omega)
    refine ⟨upd (hs_fc s) 8 (-1), upd (hs_lc s) 8 (-1), upd (hs_nx s) k (hs_fr s), hs_fc s 8, cs_flimbo W pk_us (fun j h => pk_un h) (fun j h => pk_un h) (fun z => absurd z za) (fun k' hk' => ?_), fun post H => ?_⟩
    · rw [hk] at hk'
      have e : k = k' := by simpa using hk'
      rw [e]; exact ⟨rfl, rfl⟩
    · refine br_f fa (And.intro ?_ (nm_r (e' := upd (hs_nx s) k (hs_fr s)) ?_ (nm_e ?_)))
      · show vp_in (hs_lc s 8) 128
        rw [lk]; exact vp_in_nI k1 (by omega)
      · show upd (hs_nx s) (hs_lc s 8).toNatClampNeg (hs_fr s) = _
        rw [lk, hh_cl (by omega)]
      · exact x_clr (s := (hs_fc s 8, hs_qd s, hs_ho s, hs_fc s, hs_lc s, hs_kh s, hs_kf s, upd (hs_nx s) k (hs_fr s), hs_cv s, hs_fw s, hs_cf s, hs_qu s)) (h := 8) (by omega) H
end
end
section
/-! the relation of the two states -/
def hh_bd (dp : Nat → Nat) : Nat → Nat → Nat := fun _ b => 3 - dp b
theorem bd_4 (dp : Nat → Nat) : ∀ a b, hh_bd dp a b ≤ 4 := fun a b => by
  show 3 - dp b ≤ 4
  omega
def hh_th (bt : Nat → Int32) : Nat → Prop := fun o => bt o ≠ 0
def hh_R0 (oN tN dN : Nat) (oc : Int32) (lv pa ch rg hd mk : Nat → Int32) (s : HST) (g : HG) (dp : Nat → Nat) (bt : Nat → Int32) (ow : Nat → Nat) (bv : Nat → Int32) (fd rgN : Nat → Nat) : Prop :=
  hh_TK tN dN lv pa hd dp ∧ hh_KC lv pa ch ∧ 8 ≤ oN ∧ oN ≤ 24 ∧ (∀ o, bt o ≠ 0 → o ≤ oN) ∧ oc = nI (hh_cn (hh_th bt) 25) ∧
  hh_HI s g (hh_nd lv) (hh_an (hh_pr pa)) (hh_bd dp) (hh_th bt) fd bv ow (fun j => ow (j / 2)) ∧
  (∀ t r, lv t ≠ 0 → r < 4 → hh_Rf g (hh_an (hh_pr pa)) (rg (t * 4 + r)) (rgN (t * 4 + r)) t) ∧
  (∀ j, fd j < 25) ∧ (∀ j, rgN j < 25) ∧ (∀ c, c < 512 → mk c = 0)
def hh_Rel (u : SX) (v : SY) : Prop :=
  ∃ (nl lb ld cc cs ct oc : Int32) (oN tN dN : Nat) (lv pa ch rg hd mk : Nat → Int32) (s : HST) (g : HG) (dp : Nat → Nat) (bt bv bm : Nat → Int32) (ow fd rgN : Nat → Nat), u = (hh_X nl lb ld cc cs ct (nI oN) (nI tN) (nI dN) oc lv pa ch rg hd mk s) ∧ v = ((nI oN), (nI tN), (nI dN), bt, (fun o => nI (ow o)), bv, (fun j => nI (fd j)), bm, lv, pa, (fun j => nI (rgN j))) ∧ hh_R0 oN tN dN oc lv pa ch rg hd mk s g dp bt ow bv fd rgN
theorem rel_el {P : SX → SY → Prop} (h : ∀ (nl lb ld cc cs ct oc : Int32) (oN tN dN : Nat) (lv pa ch rg hd mk : Nat → Int32) (s : HST) (g : HG) (dp : Nat → Nat) (bt bv bm : Nat → Int32) (ow fd rgN : Nat → Nat), hh_R0 oN tN dN oc lv pa ch rg hd mk s g dp bt ow bv fd rgN → P (hh_X nl lb ld cc cs ct (nI oN) (nI tN) (nI dN) oc lv pa ch rg hd mk s) ((nI oN), (nI tN), (nI dN), bt, (fun o => nI (ow o)), bv, (fun j => nI (fd j)), bm, lv, pa, (fun j => nI (rgN j)))) {u : SX} {v : SY} (I : hh_Rel u v) : P u v :=
  I.elim fun nl I => I.elim fun lb I => I.elim fun ld I => I.elim fun cc I => I.elim fun cs I => I.elim fun ct I => I.elim fun oc I => I.elim fun oN I => I.elim fun tN I => I.elim fun dN I => I.elim fun lv I => I.elim fun pa I => I.elim fun ch I => I.elim fun rg I => I.elim fun hd I => I.elim fun mk I => I.elim fun s I => I.elim fun g I => I.elim fun dp I => I.elim fun bt I => I.elim fun bv I => I.elim fun bm I => I.elim fun ow I => I.elim fun fd I => I.elim fun rgN I => I.1 ▸ I.2.1 ▸ h nl lb ld cc cs ct oc oN tN dN lv pa ch rg hd mk s g dp bt bv bm ow fd rgN I.2.2
section
variable {nl lb ld cc cs ct oc : Int32} {oN tN dN : Nat} {lv pa ch rg hd mk : Nat → Int32} {s : HST}
variable {g : HG} {dp ow fd rgN : Nat → Nat} {bt bv bm : Nat → Int32}
theorem rel_mk (R : hh_R0 oN tN dN oc lv pa ch rg hd mk s g dp bt ow bv fd rgN) : hh_Rel (hh_X nl lb ld cc cs ct (nI oN) (nI tN) (nI dN) oc lv pa ch rg hd mk s) ((nI oN), (nI tN), (nI dN), bt, (fun o => nI (ow o)), bv, (fun j => nI (fd j)), bm, lv, pa, (fun j => nI (rgN j))) :=
  ⟨nl, lb, ld, cc, cs, ct, oc, oN, tN, dN, lv, pa, ch, rg, hd, mk, s, g, dp, bt, bv, bm, ow, fd, rgN, rfl, rfl, R⟩
end
def i_Rel (k : Nat) (u : SX) (v : SY) : Prop := hh_Rel u v
theorem i_up {k : Nat} {u : SX} {v : SY} (h : i_Rel k u v) : i_Rel (k + 5) u v := h
/-- one outcome for both sides -/
def hh_Out (wx : (Int32 → SX → Prop) → Prop) (wy : (Int32 → SY → Prop) → Prop) : Prop :=
  ∃ (r : Int32) (u : SX) (v : SY), hh_Rel u v ∧ (∀ post : Int32 → SX → Prop, post r u → wx post) ∧ (∀ post : Int32 → SY → Prop, post r v → wy post)
def hh_O1 (wx wy : (Int32 → Prop) → Prop) : Prop :=
  ∃ r : Int32, (∀ post : Int32 → Prop, post r → wx post) ∧ (∀ post : Int32 → Prop, post r → wy post)
section
variable {nl lb ld cc cs ct oc : Int32} {oN tN dN : Nat} {lv pa ch rg hd mk : Nat → Int32} {s : HST}
variable {g : HG} {dp ow fd rgN : Nat → Nat} {bt bv bm : Nat → Int32}
theorem r_go (R : hh_R0 oN tN dN oc lv pa ch rg hd mk s g dp bt ow bv fd rgN) : hh_GO (hh_nd lv) (hh_an (hh_pr pa)) dp := go_n (tk_tr R.1).1
theorem r_ow (R : hh_R0 oN tN dN oc lv pa ch rg hd mk s g dp bt ow bv fd rgN) {o : Nat} (h : bt o ≠ 0) : lv (ow o) ≠ 0 ∧ ow o < 8 := by
  obtain ⟨T, K, o8, o24, tb, eoc, I, RM, f25, r25, mz⟩ := R
  have a := cm_th (o := o) I.2.1 h
  have b := (cm_us I.2.1 a.2.2.1).2.2
  rw [a.2.2.2.2] at b
  exact ⟨b, ((tk_tr T).2.2 _ b).1⟩
theorem r_t8 (R : hh_R0 oN tN dN oc lv pa ch rg hd mk s g dp bt ow bv fd rgN) {t : Nat} (h : lv t ≠ 0) : t < 8 := ((tk_tr R.1).2.2 t h).1
theorem r_th (R : hh_R0 oN tN dN oc lv pa ch rg hd mk s g dp bt ow bv fd rgN) {x : Int32} {o h : Nat} (X : hh_Rf g (hh_an (hh_pr pa)) x o h) (o0 : o ≠ 0) : bt o ≠ 0 ∧ hh_an (hh_pr pa) (ow o) h :=
  rf_th R.2.2.2.2.2.2.1.2.1 (r_go R).1 (r_go R).2.1 X o0
theorem r_cr (R : hh_R0 oN tN dN oc lv pa ch rg hd mk s g dp bt ow bv fd rgN) {x : Int32} {o h : Nat} (X : hh_Rf g (hh_an (hh_pr pa)) x o h) : hh_Rf g (hh_an (hh_pr pa)) (hh_cr g o) o h := by
  by_cases o0 : o = 0
  · subst o0; exact Or.inl ⟨rfl, rfl⟩
  · have t := r_th R X o0
    rw [cr_n g o0]
    exact rf_home R.2.2.2.2.2.2.1.2.1 t.1 t.2
theorem r_reg (R : hh_R0 oN tN dN oc lv pa ch rg hd mk s g dp bt ow bv fd rgN) {t d o : Nat} {y : Int32} (ht : lv t ≠ 0) (hd4 : d < 4) (Y : hh_Rf g (hh_an (hh_pr pa)) y o t) (o25 : o < 25) :
    hh_R0 oN tN dN oc lv pa ch (upd rg (t * 4 + d) y) hd mk s g dp bt ow bv fd (hh_up rgN (t * 4 + d) o) := by
  obtain ⟨T, K, o8, o24, tb, eoc, I, RM, f25, r25, mz⟩ := R
  refine ⟨T, K, o8, o24, tb, eoc, I, ?_, f25, ?_, mz⟩
  · intro t' r ht' hr
    by_cases e : t' * 4 + r = t * 4 + d
    · have et : t' = t := by omega
      rw [e, pk_us, hh_us, et]
      exact Y
    · rw [pk_un e, hh_un e]
      exact RM t' r ht' hr
  · intro j
    by_cases e : j = t * 4 + d
    · subst e; rw [hh_us]; exact o25
    · rw [hh_un e]; exact r25 j
theorem m_parentOf (R : hh_R0 oN tN dN oc lv pa ch rg hd mk s g dp bt ow bv fd rgN) (v1 : Int32) : hh_O1 (fun post => wpX_parentOf post (hh_X nl lb ld cc cs ct (nI oN) (nI tN) (nI dN) oc lv pa ch rg hd mk s) v1) (fun post => wpY_parentOf post ((nI oN), (nI tN), (nI dN), bt, (fun o => nI (ow o)), bv, (fun j => nI (fd j)), bm, lv, pa, (fun j => nI (rgN j))) v1) := by
  have h8 := R.1.2.1
  by_cases hv : hh_lv lv tN v1
  · obtain ⟨t, ht, rfl, lt⟩ := hv
    by_cases z : t = 0
    · subst z
      refine ⟨-10, fun post H => ?_, fun post H => ?_⟩
      · unfold wpX_parentOf
        refine x_live1 (s := s) h8 ht lt ?_
        exact br_f (by decide) (br_t rfl H)
      · unfold wpY_parentOf
        refine y_live1 h8 ht lt ?_
        exact br_f (by decide) (br_t rfl H)
    · refine ⟨pa t, fun post H => ?_, fun post H => ?_⟩
      · unfold wpX_parentOf
        refine x_live1 (s := s) h8 ht lt ?_
        refine br_f (by decide) (br_f (nI_ne0 (by omega) (by omega)) (And.intro (vp_in_nI (by omega) (by omega)) ?_))
        rw [hh_cl (by omega)]; exact H
      · unfold wpY_parentOf
        refine y_live1 h8 ht lt ?_
        refine br_f (by decide) (br_f (nI_ne0 (by omega) (by omega)) (And.intro (vp_in_nI (by omega) (by omega)) ?_))
        rw [hh_cl (by omega)]; exact H
  · refine ⟨-1, fun post H => ?_, fun post H => ?_⟩
    · unfold wpX_parentOf
      refine x_live0 (s := s) h8 hv ?_
      exact br_t rfl H
    · unfold wpY_parentOf
      refine y_live0 h8 hv ?_
      exact br_t rfl H
theorem y_hs14 (hw : ∀ o, bt o ≠ 0 → ow o < 8) {t : Nat} (ht : t < 8) {post : Int32 → Prop} : ∀ d i : Nat, i + d = 25 → post (nI (hh_cn (fun o => hh_th bt o ∧ ow o = t) 25)) →
    wY_heapSize_14 post (nI t) (nI oN) (nI tN) (nI dN) bt (fun o => nI (ow o)) bv (fun j => nI (fd j)) bm lv pa (fun j => nI (rgN j)) (d + 1) (nI (hh_cn (fun o => hh_th bt o ∧ ow o = t) i)) (nI i) := by
  intro d
  induction d with
  | zero =>
    intro i hi H
    have e : i = 25 := by omega
    subst e
    exact br_t (nI_le (a := 25) (by omega) (by omega)) H
  | succ d ih =>
    intro i hi H
    have IH := ih (i + 1) (by omega) H
    have ei : (nI i).toNatClampNeg = i := hh_cl (by omega)
    have vi : vp_in (nI i) 25 := vp_in_nI (by omega) (by omega)
    refine br_f (nI_ge (b := 25) (by omega) (by omega)) (And.intro vi ?_)
    rw [ei]
    by_cases z : bt i = 0
    · rw [cn_f (fun y => y.1 z)] at IH
      exact br_t z (nm_r (nI_1 i) IH)
    · refine br_f z (And.intro vi ?_)
      have w8 := hw i z
      by_cases y : ow i = t
      · rw [cn_t ⟨z, y⟩] at IH
        exact br_t (congrArg nI y) (nm_r (nI_1 _) (nm_r (nI_1 i) IH))
      · rw [cn_f (fun w => y w.2)] at IH
        exact br_f (fun w => y (hh_ni (by omega) (by omega) w)) (nm_r (nI_1 i) IH)
theorem m_heapSize (R : hh_R0 oN tN dN oc lv pa ch rg hd mk s g dp bt ow bv fd rgN) (v1 : Int32) : hh_O1 (fun post => wpX_heapSize post (hh_X nl lb ld cc cs ct (nI oN) (nI tN) (nI dN) oc lv pa ch rg hd mk s) v1) (fun post => wpY_heapSize post ((nI oN), (nI tN), (nI dN), bt, (fun o => nI (ow o)), bv, (fun j => nI (fd j)), bm, lv, pa, (fun j => nI (rgN j))) v1) := by
  have h8 := R.1.2.1
  by_cases hv : hh_lv lv tN v1
  · obtain ⟨t, ht, rfl, lt⟩ := hv
    have I := R.2.2.2.2.2.2.1
    refine ⟨nI (hh_cn (fun o => hh_th bt o ∧ ow o = t) 25), fun post H => ?_, fun post H => ?_⟩
    · unfold wpX_heapSize
      refine x_live1 (s := s) h8 ht lt ?_
      refine br_f (by decide) (And.intro (vp_in_nI (by omega) (by omega)) ?_)
      show post (hs_ho s (nI t).toNatClampNeg)
      rw [hh_cl (by omega), I.2.2.2.2 t (by omega)]
      exact H
    · unfold wpY_heapSize
      refine y_live1 h8 ht lt ?_
      refine br_f (by decide) ⟨25, ?_⟩
      have := y_hs14 (oN := oN) (tN := tN) (dN := dN) (lv := lv) (pa := pa) (fd := fd) (rgN := rgN) (bv := bv) (bm := bm) (fun o h => (r_ow R h).2) (t := t) (by omega) 24 1 (by omega) H
      rw [cn_f (fun y => cm_0 I.2.1 y.1), cn_0] at this
      exact this
  · refine ⟨-1, fun post H => ?_, fun post H => ?_⟩
    · unfold wpX_heapSize
      refine x_live0 (s := s) h8 hv ?_
      exact br_t rfl H
    · unfold wpY_heapSize
      refine y_live0 h8 hv ?_
      exact br_t rfl H
theorem r_held (R : hh_R0 oN tN dN oc lv pa ch rg hd mk s g dp bt ow bv fd rgN) {t r : Nat} (ht : lv t ≠ 0) (hr : r < 4) {post : Int32 → Prop} (H : post (hh_cr g (rgN (t * 4 + r)))) : wpX_held post (hh_X nl lb ld cc cs ct (nI oN) (nI tN) (nI dN) oc lv pa ch rg hd mk s) (nI t) (nI r) :=
  x_held (s := s) R.2.2.2.2.2.2.1.2.1 (bd_4 dp) (r_t8 R ht) hr (R.2.2.2.2.2.2.2.1 t r ht hr) H
theorem r_inj (R : hh_R0 oN tN dN oc lv pa ch rg hd mk s g dp bt ow bv fd rgN) {t r t' r' : Nat} (ht : lv t ≠ 0) (hr : r < 4) (ht' : lv t' ≠ 0) (hr' : r' < 4) : hh_cr g (rgN (t * 4 + r)) = hh_cr g (rgN (t' * 4 + r')) ↔ rgN (t * 4 + r) = rgN (t' * 4 + r') := by
  have I := R.2.2.2.2.2.2.1
  constructor
  · intro e
    by_cases z : rgN (t * 4 + r) = 0
    · by_cases z' : rgN (t' * 4 + r') = 0
      · rw [z, z']
      · have b := r_th R (R.2.2.2.2.2.2.2.1 t' r' ht' hr') z'
        rw [z, cr_0, cr_n g z'] at e
        exact absurd e.symm (hh_mn (by have := cm_512 I.2.1 b.1; omega))
    · have a := r_th R (R.2.2.2.2.2.2.2.1 t r ht hr) z
      have a5 := cm_512 I.2.1 a.1
      by_cases z' : rgN (t' * 4 + r') = 0
      · rw [z', cr_0, cr_n g z] at e
        exact absurd e (hh_mn (by omega))
      · have b := r_th R (R.2.2.2.2.2.2.2.1 t' r' ht' hr') z'
        have b5 := cm_512 I.2.1 b.1
        rw [cr_n g z, cr_n g z'] at e
        exact cm_cl I.2.1 a.1 b.1 (hh_ni (by omega) (by omega) e)
  · intro e; rw [e]
theorem m_same (R : hh_R0 oN tN dN oc lv pa ch rg hd mk s g dp bt ow bv fd rgN) (v1 v2 v3 v4 : Int32) : hh_O1 (fun post => wpX_same post (hh_X nl lb ld cc cs ct (nI oN) (nI tN) (nI dN) oc lv pa ch rg hd mk s) v1 v2 v3 v4) (fun post => wpY_same post ((nI oN), (nI tN), (nI dN), bt, (fun o => nI (ow o)), bv, (fun j => nI (fd j)), bm, lv, pa, (fun j => nI (rgN j))) v1 v2 v3 v4) := by
  have h8 := R.1.2.1
  by_cases hv : hh_lv lv tN v1
  · by_cases hv3 : hh_lv lv tN v3
    · obtain ⟨t, ht, rfl, lt⟩ := hv
      obtain ⟨t', ht', rfl, lt'⟩ := hv3
      by_cases g2 : hh_gd v2
      · by_cases g4 : hh_gd v4
        · obtain ⟨r, hr, rfl⟩ := g2
          obtain ⟨r', hr', rfl⟩ := g4
          have ix := hh_ix (t := t) (r := r) (by omega) hr
          have ix' := hh_ix (t := t') (r := r') (by omega) hr'
          have e1 : (nI (t * 4 + r)).toNatClampNeg = t * 4 + r := hh_cl (by omega)
          have e2 : (nI (t' * 4 + r')).toNatClampNeg = t' * 4 + r' := hh_cl (by omega)
          have b1 := R.2.2.2.2.2.2.2.2.2.1 (t * 4 + r)
          have b2 := R.2.2.2.2.2.2.2.2.2.1 (t' * 4 + r')
          have J := r_inj R lt hr lt' hr'
          have X : ∀ (q : Int32), (rgN (t * 4 + r) = rgN (t' * 4 + r') → q = 1) → (rgN (t * 4 + r) ≠ rgN (t' * 4 + r') → q = 0) → ∀ post : Int32 → Prop, post q → wpX_same post (hh_X nl lb ld cc cs ct (nI oN) (nI tN) (nI dN) oc lv pa ch rg hd mk s) (nI t) (nI r) (nI t') (nI r') := by
            intro q q1 q0 post H
            unfold wpX_same
            refine x_live1 (s := s) h8 ht lt ?_
            refine br_f (by decide) ?_
            refine x_live1 (s := s) h8 ht' lt' ?_
            refine br_f (by decide) ?_
            refine x_reg1 (s := s) hr ?_
            refine br_f (by decide) ?_
            refine x_reg1 (s := s) hr' ?_
            refine br_f (by decide) ?_
            refine r_held R lt hr ?_
            refine r_held R lt' hr' ?_
            exact br_c (fun e => q1 (J.mp e) ▸ H) (fun e => q0 (fun z => e (J.mpr z)) ▸ H)
          have Y : ∀ (q : Int32), (rgN (t * 4 + r) = rgN (t' * 4 + r') → q = 1) → (rgN (t * 4 + r) ≠ rgN (t' * 4 + r') → q = 0) → ∀ post : Int32 → Prop, post q → wpY_same post ((nI oN), (nI tN), (nI dN), bt, (fun o => nI (ow o)), bv, (fun j => nI (fd j)), bm, lv, pa, (fun j => nI (rgN j))) (nI t) (nI r) (nI t') (nI r') := by
            intro q q1 q0 post H
            unfold wpY_same
            refine y_live1 h8 ht lt ?_
            refine br_f (by decide) ?_
            refine y_live1 h8 ht' lt' ?_
            refine br_f (by decide) ?_
            refine y_reg1 hr ?_
            refine br_t rfl ?_
            refine y_reg1 hr' ?_
            refine br_t rfl ?_
            rw [ix.1, ix'.1, e1, e2]
            exact And.intro (vp_in_nI ix.2 (by omega)) (And.intro (vp_in_nI ix'.2 (by omega)) (br_c (fun e => q1 (hh_ni (by omega) (by omega) e) ▸ H) (fun e => q0 (fun z => e (congrArg nI z)) ▸ H)))
          by_cases e : rgN (t * 4 + r) = rgN (t' * 4 + r')
          · exact ⟨1, X 1 (fun _ => rfl) (fun z => absurd e z), Y 1 (fun _ => rfl) (fun z => absurd e z)⟩
          · exact ⟨0, X 0 (fun z => absurd z e) (fun _ => rfl), Y 0 (fun z => absurd z e) (fun _ => rfl)⟩
        · obtain ⟨r, hr, rfl⟩ := g2
          refine ⟨-3, fun post H => ?_, fun post H => ?_⟩
          · unfold wpX_same
            refine x_live1 (s := s) h8 ht lt ?_
            refine br_f (by decide) ?_
            refine x_live1 (s := s) h8 ht' lt' ?_
            refine br_f (by decide) ?_
            refine x_reg1 (s := s) hr ?_
            refine br_f (by decide) ?_
            refine x_reg0 (s := s) g4 ?_
            exact br_t rfl H
          · unfold wpY_same
            refine y_live1 h8 ht lt ?_
            refine br_f (by decide) ?_
            refine y_live1 h8 ht' lt' ?_
            refine br_f (by decide) ?_
            refine y_reg1 hr ?_
            refine br_t rfl ?_
            refine y_reg0 g4 ?_
            exact br_f (by decide) H
      · refine ⟨-3, fun post H => ?_, fun post H => ?_⟩
        · unfold wpX_same
          refine x_live1 (s := s) h8 ht lt ?_
          refine br_f (by decide) ?_
          refine x_live1 (s := s) h8 ht' lt' ?_
          refine br_f (by decide) ?_
          refine x_reg0 (s := s) g2 ?_
          exact br_t rfl H
        · unfold wpY_same
          refine y_live1 h8 ht lt ?_
          refine br_f (by decide) ?_
          refine y_live1 h8 ht' lt' ?_
          refine br_f (by decide) ?_
          refine y_reg0 g2 ?_
          exact br_f (by decide) H
    · obtain ⟨t, ht, rfl, lt⟩ := hv
      refine ⟨-1, fun post H => ?_, fun post H => ?_⟩
      · unfold wpX_same
        refine x_live1 (s := s) h8 ht lt ?_
        refine br_f (by decide) ?_
        refine x_live0 (s := s) h8 hv3 ?_
        exact br_t rfl H
      · unfold wpY_same
        refine y_live1 h8 ht lt ?_
        refine br_f (by decide) ?_
        refine y_live0 h8 hv3 ?_
        exact br_t rfl H
  · refine ⟨-1, fun post H => ?_, fun post H => ?_⟩
    · unfold wpX_same
      refine x_live0 (s := s) h8 hv ?_
      exact br_t rfl H
    · unfold wpY_same
      refine y_live0 h8 hv ?_
      exact br_t rfl H
end
end
section
/-! follow and endOf; the calls that read, and those that write one register or value -/
def hh_c5 (g : HG) (o : Nat) : Int32 := if o = 0 then -5 else nI (gg_cl g o)
def hh_o5 (o : Nat) : Int32 := if o = 0 then -5 else nI o
section
variable {nl lb ld cc cs ct oc : Int32} {oN tN dN : Nat} {lv pa ch rg hd mk : Nat → Int32} {s : HST}
variable {g : HG} {dp ow fd rgN : Nat → Nat} {bt bv bm : Nat → Int32}
theorem r_fld (R : hh_R0 oN tN dN oc lv pa ch rg hd mk s g dp bt ow bv fd rgN) {o f : Nat} (ho : bt o ≠ 0) (hf : f < 2) : hh_Rf g (hh_an (hh_pr pa)) (hs_cf s (gg_cl g o * 2 + f)) (fd (2 * o + f)) (ow o) := by
  have := R.2.2.2.2.2.2.1.2.2.1 o f ho hf
  have e : (2 * o + f) / 2 = o := by omega
  have this : hh_Rf g (hh_an (hh_pr pa)) (hs_cf s (gg_cl g o * 2 + f)) (fd (2 * o + f)) (ow ((2 * o + f) / 2)) := this
  rw [e] at this
  exact this
theorem xy_fol (R : hh_R0 oN tN dN oc lv pa ch rg hd mk s g dp bt ow bv fd rgN) (v4 : Int32) {st : Nat} (h16 : st ≤ 16) : ∀ d k o : Nat, k + d = st → (o = 0 ∨ bt o ≠ 0) → ∃ o' : Nat, (o' = 0 ∨ bt o' ≠ 0) ∧
    (∀ (n : Nat) (post : Int32 → Prop), d < n → post (hh_c5 g o') → wX_follow_45 post (nI st) v4 nl lb ld cc cs ct (nI oN) (nI tN) (nI dN) oc (hs_fr s) (hs_qd s) lv pa ch rg hd (hs_ho s) (hs_fc s) (hs_lc s) (hs_kh s) (hs_kf s) (hs_nx s) (hs_cv s) (hs_fw s) (hs_cf s) mk (hs_qu s) n (hh_cr g o) (nI k)) ∧
    (∀ (n : Nat) (post : Int32 → Prop), d < n → post (hh_o5 o') → wY_endOf_49 post (nI st) v4 (nI oN) (nI tN) (nI dN) bt (fun o => nI (ow o)) bv (fun j => nI (fd j)) bm lv pa (fun j => nI (rgN j)) n (nI o) (nI k)) := by
  have I := R.2.2.2.2.2.2.1
  have o25 : ∀ o, bt o ≠ 0 → o < 25 ∧ gg_cl g o < 512 := fun o h => ⟨(cm_th (o := o) I.2.1 h).2.1, cm_512 (o := o) I.2.1 h⟩
  have f85 : ∀ (o : Nat) (post : Int32 → Prop), (o = 0 ∨ bt o ≠ 0) → post (hh_c5 g o) → wX_follow_85 post (hh_cr g o) nl lb ld cc cs ct (nI oN) (nI tN) (nI dN) oc (hs_fr s) (hs_qd s) lv pa ch rg hd (hs_ho s) (hs_fc s) (hs_lc s) (hs_kh s) (hs_kf s) (hs_nx s) (hs_cv s) (hs_fw s) (hs_cf s) mk (hs_qu s) := by
    intro o post ho H
    by_cases z : o = 0
    · subst z; exact br_f hh_m1' H
    · have b := o25 o (ho.elim (fun y => absurd y z) id)
      have e : hh_c5 g o = nI (gg_cl g o) := if_neg z
      rw [e] at H
      rw [cr_n g z]
      exact br_t (nI_pos' (by omega)) H
  intro d
  induction d with
  | zero =>
    intro k o hk ho
    have e : k = st := by omega
    subst e
    refine ⟨o, ho, fun n post hn H => ?_, fun n post hn H => ?_⟩
    · obtain ⟨n, rfl⟩ : ∃ n', n = n' + 1 := ⟨n - 1, by omega⟩
      exact br_t (nI_le (Nat.le_refl _) (by omega)) (f85 o post ho H)
    · obtain ⟨n, rfl⟩ : ∃ n', n = n' + 1 := ⟨n - 1, by omega⟩
      refine br_t (nI_le (Nat.le_refl _) (by omega)) ?_
      by_cases z : o = 0
      · subst z; exact br_t rfl H
      · have b := o25 o (ho.elim (fun y => absurd y z) id)
        have e : hh_o5 o = nI o := if_neg z
        rw [e] at H
        exact br_f (nI_ne0 (by omega) (by omega)) H
  | succ d ih =>
    intro k o hk ho
    by_cases z : o = 0
    · subst z
      refine ⟨0, Or.inl rfl, fun n post hn H => ?_, fun n post hn H => ?_⟩
      · obtain ⟨n, rfl⟩ : ∃ n', n = n' + 1 := ⟨n - 1, by omega⟩
        exact br_f (nI_ge (by omega) (by omega)) (br_t hh_m1 (f85 0 post (Or.inl rfl) H))
      · obtain ⟨n, rfl⟩ : ∃ n', n = n' + 1 := ⟨n - 1, by omega⟩
        exact br_f (nI_ge (by omega) (by omega)) (br_t rfl H)
    · have ho' := ho.elim (fun y => absurd y z) id
      have b := o25 o ho'
      obtain ⟨f, hf, ef⟩ := pk_andE ((v4.toUInt32 >>> ((nI k).toUInt32 &&& Int32.toUInt32 31)).toInt32) (m := 1) 1 (by decide)
      have hf : f < 2 := hf
      have F := r_fld R ho' hf
      have f25 := R.2.2.2.2.2.2.2.2.1 (2 * o + f)
      obtain ⟨o', h', WX, WY⟩ := ih (k + 1) (fd (2 * o + f)) (by omega) (by
        by_cases y : fd (2 * o + f) = 0
        · exact Or.inl y
        · exact Or.inr (r_th R F y).1)
      refine ⟨o', h', fun n post hn H => ?_, fun n post hn H => ?_⟩
      · obtain ⟨n, rfl⟩ : ∃ n', n = n' + 1 := ⟨n - 1, by omega⟩
        have e1 : nI (gg_cl g o) * 2 + nI f = nI (gg_cl g o * 2 + f) := by
          rw [show (2 : Int32) = nI 2 from rfl, pk_mul, nI_add]
        rw [cr_n g z]
        refine br_f (nI_ge (by omega) (by omega)) (br_f (nI_pos (by omega)) ?_)
        rw [ef, e1, hh_cl (by omega)]
        refine And.intro (vp_in_nI (by omega) (by omega)) ?_
        refine x_res (s := s) I.2.1 (bd_4 dp) F ?_
        exact nm_r (nI_1 k) (WX n post (by omega) H)
      · obtain ⟨n, rfl⟩ : ∃ n', n = n' + 1 := ⟨n - 1, by omega⟩
        have e1 : 2 * nI o + nI f = nI (2 * o + f) := by
          rw [show (2 : Int32) = nI 2 from rfl, pk_mul, nI_add]
        refine br_f (nI_ge (by omega) (by omega)) (br_f (nI_ne0 (by omega) (by omega)) ?_)
        rw [ef, e1, hh_cl (by omega)]
        exact And.intro (vp_in_nI (by omega) (by omega)) (nm_e (nm_r (nI_1 k) (WY n post (by omega) H)))
theorem xy_follow (R : hh_R0 oN tN dN oc lv pa ch rg hd mk s g dp bt ow bv fd rgN) (v1 v2 v3 v4 : Int32) :
    (∃ r : Int32, r < 0 ∧ (∀ post : Int32 → Prop, post r → wpX_follow post (hh_X nl lb ld cc cs ct (nI oN) (nI tN) (nI dN) oc lv pa ch rg hd mk s) v1 v2 v3 v4) ∧ (∀ post : Int32 → Prop, post r → wpY_endOf post ((nI oN), (nI tN), (nI dN), bt, (fun o => nI (ow o)), bv, (fun j => nI (fd j)), bm, lv, pa, (fun j => nI (rgN j))) v1 v2 v3 v4)) ∨
    (∃ o : Nat, bt o ≠ 0 ∧ (∀ post : Int32 → Prop, post (nI (gg_cl g o)) → wpX_follow post (hh_X nl lb ld cc cs ct (nI oN) (nI tN) (nI dN) oc lv pa ch rg hd mk s) v1 v2 v3 v4) ∧ (∀ post : Int32 → Prop, post (nI o) → wpY_endOf post ((nI oN), (nI tN), (nI dN), bt, (fun o => nI (ow o)), bv, (fun j => nI (fd j)), bm, lv, pa, (fun j => nI (rgN j))) v1 v2 v3 v4)) := by
  have h8 := R.1.2.1
  by_cases hv : hh_lv lv tN v1
  · obtain ⟨t, ht, rfl, lt⟩ := hv
    by_cases g2 : hh_gd v2
    · obtain ⟨r, hr, rfl⟩ := g2
      by_cases s0 : v3 < 0
      · left
        refine ⟨-9, by decide, fun post H => ?_, fun post H => ?_⟩
        · unfold wpX_follow
          refine x_live1 (s := s) h8 ht lt ?_
          refine br_f (by decide) ?_
          refine x_reg1 (s := s) hr ?_
          exact br_f (by decide) (br_t s0 H)
        · unfold wpY_endOf
          refine y_live1 h8 ht lt ?_
          refine br_f (by decide) ?_
          refine y_reg1 hr ?_
          exact br_t rfl (br_t s0 H)
      · by_cases s16 : v3 ≤ 16
        · obtain ⟨st, h16, rfl⟩ := nI_of2 (n := 16) (by decide) s0 s16
          have ix := hh_ix (t := t) (r := r) (by omega) hr
          have e1 : (nI (t * 4 + r)).toNatClampNeg = t * 4 + r := hh_cl (by omega)
          obtain ⟨o', h', WX, WY⟩ := xy_fol (s := s) (nl := nl) (lb := lb) (ld := ld) (cc := cc) (cs := cs) (ct := ct) (oN := oN) (tN := tN) (dN := dN) (oc := oc) (lv := lv) (pa := pa) (ch := ch) (rg := rg) (hd := hd) (mk := mk) (bm := bm) R v4 h16 st 0 (rgN (t * 4 + r)) (by omega) (by
            by_cases y : rgN (t * 4 + r) = 0
            · exact Or.inl y
            · exact Or.inr (r_th R (R.2.2.2.2.2.2.2.1 t r lt hr) y).1)
          have X : ∀ post : Int32 → Prop, post (hh_c5 g o') → wpX_follow post (hh_X nl lb ld cc cs ct (nI oN) (nI tN) (nI dN) oc lv pa ch rg hd mk s) (nI t) (nI r) (nI st) v4 := by
            intro post H
            unfold wpX_follow
            refine x_live1 (s := s) h8 ht lt ?_
            refine br_f (by decide) ?_
            refine x_reg1 (s := s) hr ?_
            refine br_f (by decide) (br_f s0 (br_t s16 ?_))
            refine r_held R lt hr ?_
            exact ⟨st + 1, WX _ post (by omega) H⟩
          have Y : ∀ post : Int32 → Prop, post (hh_o5 o') → wpY_endOf post ((nI oN), (nI tN), (nI dN), bt, (fun o => nI (ow o)), bv, (fun j => nI (fd j)), bm, lv, pa, (fun j => nI (rgN j))) (nI t) (nI r) (nI st) v4 := by
            intro post H
            unfold wpY_endOf
            refine y_live1 h8 ht lt ?_
            refine br_f (by decide) ?_
            refine y_reg1 hr ?_
            refine br_t rfl (br_f s0 (br_t s16 ?_))
            rw [ix.1, e1]
            exact And.intro (vp_in_nI ix.2 (by omega)) (nm_e ⟨st + 1, WY _ post (by omega) H⟩)
          by_cases z : o' = 0
          · left
            subst z
            exact ⟨-5, by decide, X, Y⟩
          · right
            have e2 : hh_c5 g o' = nI (gg_cl g o') := if_neg z
            have e3 : hh_o5 o' = nI o' := if_neg z
            rw [e2] at X
            rw [e3] at Y
            exact ⟨o', h'.elim (fun y => absurd y z) id, X, Y⟩
        · left
          refine ⟨-9, by decide, fun post H => ?_, fun post H => ?_⟩
          · unfold wpX_follow
            refine x_live1 (s := s) h8 ht lt ?_
            refine br_f (by decide) ?_
            refine x_reg1 (s := s) hr ?_
            exact br_f (by decide) (br_f s0 (br_f s16 H))
          · unfold wpY_endOf
            refine y_live1 h8 ht lt ?_
            refine br_f (by decide) ?_
            refine y_reg1 hr ?_
            exact br_t rfl (br_f s0 (br_f s16 H))
    · left
      refine ⟨-3, by decide, fun post H => ?_, fun post H => ?_⟩
      · unfold wpX_follow
        refine x_live1 (s := s) h8 ht lt ?_
        refine br_f (by decide) ?_
        refine x_reg0 (s := s) g2 ?_
        exact br_t rfl H
      · unfold wpY_endOf
        refine y_live1 h8 ht lt ?_
        refine br_f (by decide) ?_
        refine y_reg0 g2 ?_
        exact br_f (by decide) H
  · left
    refine ⟨-1, by decide, fun post H => ?_, fun post H => ?_⟩
    · unfold wpX_follow
      refine x_live0 (s := s) h8 hv ?_
      exact br_t rfl H
    · unfold wpY_endOf
      refine y_live0 h8 hv ?_
      exact br_t rfl H
theorem m_valueAt (R : hh_R0 oN tN dN oc lv pa ch rg hd mk s g dp bt ow bv fd rgN) (v1 v2 v3 v4 : Int32) : hh_O1 (fun post => wpX_valueAt post (hh_X nl lb ld cc cs ct (nI oN) (nI tN) (nI dN) oc lv pa ch rg hd mk s) v1 v2 v3 v4) (fun post => wpY_valueAt post ((nI oN), (nI tN), (nI dN), bt, (fun o => nI (ow o)), bv, (fun j => nI (fd j)), bm, lv, pa, (fun j => nI (rgN j))) v1 v2 v3 v4) := by
  have I := R.2.2.2.2.2.2.1
  rcases xy_follow (s := s) (nl := nl) (lb := lb) (ld := ld) (cc := cc) (cs := cs) (ct := ct) (oN := oN) (tN := tN) (dN := dN) (oc := oc) (lv := lv) (pa := pa) (ch := ch) (rg := rg) (hd := hd) (mk := mk) (bm := bm) R v1 v2 v3 v4 with ⟨r, hr, X, Y⟩ | ⟨o, ho, X, Y⟩
  · refine ⟨r, fun post H => ?_, fun post H => ?_⟩
    · unfold wpX_valueAt
      refine X _ ?_
      exact br_f (Int32.not_le.mpr hr) H
    · unfold wpY_valueAt
      refine Y _ ?_
      exact br_f (Int32.not_le.mpr hr) H
  · have c5 := cm_512 (o := o) I.2.1 ho
    have o25 := (cm_th (o := o) I.2.1 ho).2.1
    refine ⟨bv o, fun post H => ?_, fun post H => ?_⟩
    · unfold wpX_valueAt
      refine X _ ?_
      refine br_t (nI_pos' (by omega)) (And.intro (vp_in_nI c5 (by omega)) ?_)
      show post (hs_cv s (nI (gg_cl g o)).toNatClampNeg)
      rw [hh_cl (by omega), I.2.2.2.1 o ho]
      exact H
    · unfold wpY_valueAt
      refine Y _ ?_
      refine br_t (nI_pos' (by omega)) (And.intro (vp_in_nI o25 (by omega)) ?_)
      rw [hh_cl (by omega)]
      exact H
theorem m_ownerAt (R : hh_R0 oN tN dN oc lv pa ch rg hd mk s g dp bt ow bv fd rgN) (v1 v2 v3 v4 : Int32) : hh_O1 (fun post => wpX_ownerAt post (hh_X nl lb ld cc cs ct (nI oN) (nI tN) (nI dN) oc lv pa ch rg hd mk s) v1 v2 v3 v4) (fun post => wpY_ownerAt post ((nI oN), (nI tN), (nI dN), bt, (fun o => nI (ow o)), bv, (fun j => nI (fd j)), bm, lv, pa, (fun j => nI (rgN j))) v1 v2 v3 v4) := by
  have I := R.2.2.2.2.2.2.1
  rcases xy_follow (s := s) (nl := nl) (lb := lb) (ld := ld) (cc := cc) (cs := cs) (ct := ct) (oN := oN) (tN := tN) (dN := dN) (oc := oc) (lv := lv) (pa := pa) (ch := ch) (rg := rg) (hd := hd) (mk := mk) (bm := bm) R v1 v2 v3 v4 with ⟨r, hr, X, Y⟩ | ⟨o, ho, X, Y⟩
  · refine ⟨r, fun post H => ?_, fun post H => ?_⟩
    · unfold wpX_ownerAt
      refine X _ ?_
      exact br_f (Int32.not_le.mpr hr) H
    · unfold wpY_ownerAt
      refine Y _ ?_
      exact br_f (Int32.not_le.mpr hr) H
  · have kt := cm_th (o := o) I.2.1 ho
    have c5 := cm_512 (o := o) I.2.1 ho
    refine ⟨nI (ow o), fun post H => ?_, fun post H => ?_⟩
    · unfold wpX_ownerAt
      refine X _ ?_
      refine br_t (nI_pos' (by omega)) ?_
      refine x_own (s := s) I.1 kt.2.2.1 ?_
      rw [kt.2.2.2.2]
      exact H
    · unfold wpY_ownerAt
      refine Y _ ?_
      refine br_t (nI_pos' (by omega)) (And.intro (vp_in_nI (by omega) (by omega)) ?_)
      rw [hh_cl (by omega)]
      exact H
end
end
section
/-! move, drop, load, setValue -/
section
variable {nl lb ld cc cs ct oc : Int32} {oN tN dN : Nat} {lv pa ch rg hd mk : Nat → Int32} {s : HST}
variable {g : HG} {dp ow fd rgN : Nat → Nat} {bt bv bm : Nat → Int32}
theorem r_leaf (R : hh_R0 oN tN dN oc lv pa ch rg hd mk s g dp bt ow bv fd rgN) (v a b : Int32) :
    (∃ r : Int32, r ≠ 0 ∧ (∀ post : Int32 → Prop, post r → wpX_refuseLeaf post (hh_X nl lb ld cc cs ct (nI oN) (nI tN) (nI dN) oc lv pa ch rg hd mk s) v a b) ∧ (∀ post : Int32 → Prop, post r → wpY_refusal post ((nI oN), (nI tN), (nI dN), bt, (fun o => nI (ow o)), bv, (fun j => nI (fd j)), bm, lv, pa, (fun j => nI (rgN j))) v)) ∨
    (∃ t, t < tN ∧ v = nI t ∧ lv t ≠ 0 ∧ ¬ hh_bz lv pa t ∧ (∀ post : Int32 → Prop, post 0 → wpY_refusal post ((nI oN), (nI tN), (nI dN), bt, (fun o => nI (ow o)), bv, (fun j => nI (fd j)), bm, lv, pa, (fun j => nI (rgN j))) v) ∧
      ((¬ (hh_gd a ∧ hh_gd b) ∧ ∀ post : Int32 → Prop, post (-3) → wpX_refuseLeaf post (hh_X nl lb ld cc cs ct (nI oN) (nI tN) (nI dN) oc lv pa ch rg hd mk s) v a b) ∨
       (hh_gd a ∧ hh_gd b ∧ ∀ post : Int32 → Prop, post 0 → wpX_refuseLeaf post (hh_X nl lb ld cc cs ct (nI oN) (nI tN) (nI dN) oc lv pa ch rg hd mk s) v a b))) := xy_leaf R.1 R.2.1 v a b
theorem m_move (R : hh_R0 oN tN dN oc lv pa ch rg hd mk s g dp bt ow bv fd rgN) (v1 v2 v3 : Int32) : hh_Out (fun post => wpX_move post (hh_X nl lb ld cc cs ct (nI oN) (nI tN) (nI dN) oc lv pa ch rg hd mk s) v1 v2 v3) (fun post => wpY_move post ((nI oN), (nI tN), (nI dN), bt, (fun o => nI (ow o)), bv, (fun j => nI (fd j)), bm, lv, pa, (fun j => nI (rgN j))) v1 v2 v3) := by
  have h8 := R.1.2.1
  rcases r_leaf (s := s) (nl := nl) (lb := lb) (ld := ld) (cc := cc) (cs := cs) (ct := ct) (oN := oN) (tN := tN) (dN := dN) (oc := oc) (lv := lv) (pa := pa) (ch := ch) (rg := rg) (hd := hd) (mk := mk) (bm := bm) R v1 v2 v3 with ⟨r, r0, X, Y⟩ | ⟨t, ht, rfl, lt, nb, Y, ⟨ng, X⟩ | ⟨g2, g3, X⟩⟩
  · refine ⟨r, (hh_X nl lb ld cc cs ct (nI oN) (nI tN) (nI dN) oc lv pa ch rg hd mk s), ((nI oN), (nI tN), (nI dN), bt, (fun o => nI (ow o)), bv, (fun j => nI (fd j)), bm, lv, pa, (fun j => nI (rgN j))), rel_mk R, fun post H => ?_, fun post H => ?_⟩
    · unfold wpX_move
      refine X _ ?_
      exact br_f r0 H
    · unfold wpY_move
      refine Y _ ?_
      exact br_f r0 H
  · refine ⟨-3, (hh_X nl lb ld cc cs ct (nI oN) (nI tN) (nI dN) oc lv pa ch rg hd mk s), ((nI oN), (nI tN), (nI dN), bt, (fun o => nI (ow o)), bv, (fun j => nI (fd j)), bm, lv, pa, (fun j => nI (rgN j))), rel_mk R, fun post H => ?_, fun post H => ?_⟩
    · unfold wpX_move
      refine X _ ?_
      exact br_f (by decide) H
    · unfold wpY_move
      refine Y _ ?_
      refine br_t rfl ?_
      by_cases g2 : hh_gd v2
      · have g3 : ¬ hh_gd v3 := fun z => ng ⟨g2, z⟩
        obtain ⟨d, hd4, rfl⟩ := g2
        refine y_reg1 hd4 ?_
        refine br_t rfl ?_
        refine y_reg0 g3 ?_
        exact br_f (by decide) H
      · refine y_reg0 g2 ?_
        exact br_f (by decide) H
  · obtain ⟨d, hd4, rfl⟩ := g2
    obtain ⟨r, hr, rfl⟩ := g3
    have ix := hh_ix (t := t) (r := d) (by omega) hd4
    have ix2 := hh_ix (t := t) (r := r) (by omega) hr
    have e1 : (nI (t * 4 + d)).toNatClampNeg = t * 4 + d := hh_cl (by omega)
    have e2 : (nI (t * 4 + r)).toNatClampNeg = t * 4 + r := hh_cl (by omega)
    refine ⟨0, (hh_X nl lb ld cc cs ct (nI oN) (nI tN) (nI dN) oc lv pa ch (upd rg (t * 4 + d) (hh_cr g (rgN (t * 4 + r)))) hd mk s), ((nI oN), (nI tN), (nI dN), bt, (fun o => nI (ow o)), bv, (fun j => nI (fd j)), bm, lv, pa, (fun j => nI (hh_up rgN (t * 4 + d) (rgN (t * 4 + r)) j))),
      rel_mk (r_reg R lt hd4 (r_cr R (R.2.2.2.2.2.2.2.1 t r lt hr)) (R.2.2.2.2.2.2.2.2.2.1 _)), fun post H => ?_, fun post H => ?_⟩
    · unfold wpX_move
      refine X _ ?_
      refine br_t rfl ?_
      refine r_held R lt hr ?_
      rw [ix.1, e1]
      exact And.intro (vp_in_nI ix.2 (by omega)) (nm_e H)
    · unfold wpY_move
      refine Y _ ?_
      refine br_t rfl ?_
      refine y_reg1 hd4 ?_
      refine br_t rfl ?_
      refine y_reg1 hr ?_
      refine br_t rfl ?_
      rw [ix.1, ix2.1, e1, e2]
      exact And.intro (vp_in_nI ix2.2 (by omega)) (And.intro (vp_in_nI ix.2 (by omega)) (nm_r (hh_nI_up rgN _ _) H))
theorem m_drop (R : hh_R0 oN tN dN oc lv pa ch rg hd mk s g dp bt ow bv fd rgN) (v1 v2 : Int32) : hh_Out (fun post => wpX_drop post (hh_X nl lb ld cc cs ct (nI oN) (nI tN) (nI dN) oc lv pa ch rg hd mk s) v1 v2) (fun post => wpY_drop post ((nI oN), (nI tN), (nI dN), bt, (fun o => nI (ow o)), bv, (fun j => nI (fd j)), bm, lv, pa, (fun j => nI (rgN j))) v1 v2) := by
  have h8 := R.1.2.1
  rcases r_leaf (s := s) (nl := nl) (lb := lb) (ld := ld) (cc := cc) (cs := cs) (ct := ct) (oN := oN) (tN := tN) (dN := dN) (oc := oc) (lv := lv) (pa := pa) (ch := ch) (rg := rg) (hd := hd) (mk := mk) (bm := bm) R v1 v2 v2 with ⟨r, r0, X, Y⟩ | ⟨t, ht, rfl, lt, nb, Y, ⟨ng, X⟩ | ⟨g2, g3, X⟩⟩
  · refine ⟨r, (hh_X nl lb ld cc cs ct (nI oN) (nI tN) (nI dN) oc lv pa ch rg hd mk s), ((nI oN), (nI tN), (nI dN), bt, (fun o => nI (ow o)), bv, (fun j => nI (fd j)), bm, lv, pa, (fun j => nI (rgN j))), rel_mk R, fun post H => ?_, fun post H => ?_⟩
    · unfold wpX_drop
      refine X _ ?_
      exact br_f r0 H
    · unfold wpY_drop
      refine Y _ ?_
      exact br_f r0 H
  · refine ⟨-3, (hh_X nl lb ld cc cs ct (nI oN) (nI tN) (nI dN) oc lv pa ch rg hd mk s), ((nI oN), (nI tN), (nI dN), bt, (fun o => nI (ow o)), bv, (fun j => nI (fd j)), bm, lv, pa, (fun j => nI (rgN j))), rel_mk R, fun post H => ?_, fun post H => ?_⟩
    · unfold wpX_drop
      refine X _ ?_
      exact br_f (by decide) H
    · unfold wpY_drop
      refine Y _ ?_
      refine br_t rfl ?_
      have g2 : ¬ hh_gd v2 := fun z => ng ⟨z, z⟩
      refine y_reg0 g2 ?_
      exact br_f (by decide) H
  · obtain ⟨d, hd4, rfl⟩ := g2
    have ix := hh_ix (t := t) (r := d) (by omega) hd4
    have e1 : (nI (t * 4 + d)).toNatClampNeg = t * 4 + d := hh_cl (by omega)
    refine ⟨0, (hh_X nl lb ld cc cs ct (nI oN) (nI tN) (nI dN) oc lv pa ch (upd rg (t * 4 + d) (-1)) hd mk s), ((nI oN), (nI tN), (nI dN), bt, (fun o => nI (ow o)), bv, (fun j => nI (fd j)), bm, lv, pa, (fun j => nI (hh_up rgN (t * 4 + d) 0 j))),
      rel_mk (r_reg R lt hd4 (Or.inl ⟨rfl, rfl⟩) (by omega)), fun post H => ?_, fun post H => ?_⟩
    · unfold wpX_drop
      refine X _ ?_
      refine br_t rfl ?_
      rw [ix.1, e1]
      exact And.intro (vp_in_nI ix.2 (by omega)) (nm_e H)
    · unfold wpY_drop
      refine Y _ ?_
      refine br_t rfl ?_
      refine y_reg1 hd4 ?_
      refine br_t rfl ?_
      rw [ix.1, e1]
      exact And.intro (vp_in_nI ix.2 (by omega)) (nm_r (hh_nI_up rgN _ 0) H)
theorem m_load (R : hh_R0 oN tN dN oc lv pa ch rg hd mk s g dp bt ow bv fd rgN) (v1 v2 v3 v4 : Int32) : hh_Out (fun post => wpX_load post (hh_X nl lb ld cc cs ct (nI oN) (nI tN) (nI dN) oc lv pa ch rg hd mk s) v1 v2 v3 v4) (fun post => wpY_load post ((nI oN), (nI tN), (nI dN), bt, (fun o => nI (ow o)), bv, (fun j => nI (fd j)), bm, lv, pa, (fun j => nI (rgN j))) v1 v2 v3 v4) := by
  have h8 := R.1.2.1
  have I := R.2.2.2.2.2.2.1
  rcases r_leaf (s := s) (nl := nl) (lb := lb) (ld := ld) (cc := cc) (cs := cs) (ct := ct) (oN := oN) (tN := tN) (dN := dN) (oc := oc) (lv := lv) (pa := pa) (ch := ch) (rg := rg) (hd := hd) (mk := mk) (bm := bm) R v1 v2 v3 with ⟨r, r0, X, Y⟩ | ⟨t, ht, rfl, lt, nb, Y, ⟨ng, X⟩ | ⟨g2, g3, X⟩⟩
  · refine ⟨r, (hh_X nl lb ld cc cs ct (nI oN) (nI tN) (nI dN) oc lv pa ch rg hd mk s), ((nI oN), (nI tN), (nI dN), bt, (fun o => nI (ow o)), bv, (fun j => nI (fd j)), bm, lv, pa, (fun j => nI (rgN j))), rel_mk R, fun post H => ?_, fun post H => ?_⟩
    · unfold wpX_load
      refine X _ ?_
      exact br_f r0 H
    · unfold wpY_load
      refine Y _ ?_
      exact br_f r0 H
  · refine ⟨-3, (hh_X nl lb ld cc cs ct (nI oN) (nI tN) (nI dN) oc lv pa ch rg hd mk s), ((nI oN), (nI tN), (nI dN), bt, (fun o => nI (ow o)), bv, (fun j => nI (fd j)), bm, lv, pa, (fun j => nI (rgN j))), rel_mk R, fun post H => ?_, fun post H => ?_⟩
    · unfold wpX_load
      refine X _ ?_
      exact br_f (by decide) H
    · unfold wpY_load
      refine Y _ ?_
      refine br_t rfl ?_
      by_cases g2 : hh_gd v2
      · have g3 : ¬ hh_gd v3 := fun z => ng ⟨g2, z⟩
        obtain ⟨d, hd4, rfl⟩ := g2
        refine y_reg1 hd4 ?_
        refine br_t rfl ?_
        refine y_reg0 g3 ?_
        exact br_f (by decide) H
      · refine y_reg0 g2 ?_
        exact br_f (by decide) H
  · obtain ⟨d, hd4, rfl⟩ := g2
    obtain ⟨r, hr, rfl⟩ := g3
    have ix := hh_ix (t := t) (r := d) (by omega) hd4
    have ix2 := hh_ix (t := t) (r := r) (by omega) hr
    have e1 : (nI (t * 4 + d)).toNatClampNeg = t * 4 + d := hh_cl (by omega)
    have e2 : (nI (t * 4 + r)).toNatClampNeg = t * 4 + r := hh_cl (by omega)
    have Y2 : ∀ post : Int32 → SY → Prop, (wpY_badField (fun r_40 => (((r_40 = 0 → (vp_in ((nI t * 4) + nI r) 32 ∧ (∀ x6_54 : Int32, x6_54 = nI (rgN ((nI t * 4) + nI r).toNatClampNeg) → (((x6_54 = 0 → (post (-5) ((nI oN), (nI tN), (nI dN), bt, (fun o => nI (ow o)), bv, (fun j => nI (fd j)), bm, lv, pa, (fun j => nI (rgN j))))) ∧ (¬ x6_54 = 0 → (vp_in ((2 * x6_54) + v4) 50 ∧ (vp_in ((nI t * 4) + nI d) 32 ∧ ∀ a_regs_58 : Nat → Int32, a_regs_58 = upd (fun j => nI (rgN j)) ((nI t * 4) + nI d).toNatClampNeg (nI (fd ((2 * x6_54) + v4).toNatClampNeg)) → (post 0 ((nI oN), (nI tN), (nI dN), bt, (fun o => nI (ow o)), bv, (fun j => nI (fd j)), bm, lv, pa, a_regs_58)))))))))) ∧ (¬ r_40 = 0 → (post (-4) ((nI oN), (nI tN), (nI dN), bt, (fun o => nI (ow o)), bv, (fun j => nI (fd j)), bm, lv, pa, (fun j => nI (rgN j)))))))) ((nI oN), (nI tN), (nI dN), bt, (fun o => nI (ow o)), bv, (fun j => nI (fd j)), bm, lv, pa, (fun j => nI (rgN j))) v4) → wpY_load post ((nI oN), (nI tN), (nI dN), bt, (fun o => nI (ow o)), bv, (fun j => nI (fd j)), bm, lv, pa, (fun j => nI (rgN j))) (nI t) (nI d) (nI r) v4 := by
      intro post H
      unfold wpY_load
      refine Y _ ?_
      refine br_t rfl ?_
      refine y_reg1 hd4 ?_
      refine br_t rfl ?_
      refine y_reg1 hr ?_
      exact br_t rfl H
    by_cases g4 : hh_gf v4
    · obtain ⟨f, hf, rfl⟩ := g4
      have RM := R.2.2.2.2.2.2.2.1 t r lt hr
      by_cases z : rgN (t * 4 + r) = 0
      · refine ⟨-5, (hh_X nl lb ld cc cs ct (nI oN) (nI tN) (nI dN) oc lv pa ch rg hd mk s), ((nI oN), (nI tN), (nI dN), bt, (fun o => nI (ow o)), bv, (fun j => nI (fd j)), bm, lv, pa, (fun j => nI (rgN j))), rel_mk R, fun post H => ?_, fun post H => ?_⟩
        · unfold wpX_load
          refine X _ ?_
          refine br_t rfl ?_
          refine x_fld1 (s := s) hf ?_
          refine br_f (by decide) ?_
          refine r_held R lt hr ?_
          rw [z]
          exact br_f hh_m1' H
        · refine Y2 post (y_fld1 hf ?_)
          refine br_t rfl ?_
          rw [ix2.1, e2, z]
          exact And.intro (vp_in_nI ix2.2 (by omega)) (nm_e (br_t rfl H))
      · have to := r_th R RM z
        have kt := cm_th I.2.1 to.1
        have c5 := cm_512 I.2.1 to.1
        have F := r_fld R to.1 hf
        have e3 : nI (gg_cl g (rgN (t * 4 + r))) * 2 + nI f = nI (gg_cl g (rgN (t * 4 + r)) * 2 + f) := by
          rw [show (2 : Int32) = nI 2 from rfl, pk_mul, nI_add]
        have e4 : 2 * nI (rgN (t * 4 + r)) + nI f = nI (2 * rgN (t * 4 + r) + f) := by
          rw [show (2 : Int32) = nI 2 from rfl, pk_mul, nI_add]
        have e5 : (nI (2 * rgN (t * 4 + r) + f)).toNatClampNeg = 2 * rgN (t * 4 + r) + f := hh_cl (by omega)
        refine ⟨0, (hh_X nl lb ld cc cs ct (nI oN) (nI tN) (nI dN) oc lv pa ch (upd rg (t * 4 + d) (hh_cr g (fd (2 * rgN (t * 4 + r) + f)))) hd mk s), ((nI oN), (nI tN), (nI dN), bt, (fun o => nI (ow o)), bv, (fun j => nI (fd j)), bm, lv, pa, (fun j => nI (hh_up rgN (t * 4 + d) (fd (2 * rgN (t * 4 + r) + f)) j))),
          rel_mk (r_reg R lt hd4 (rf_up (r_go R).2.1 (r_cr R F) to.2) (R.2.2.2.2.2.2.2.2.1 _)), fun post H => ?_, fun post H => ?_⟩
        · unfold wpX_load
          refine X _ ?_
          refine br_t rfl ?_
          refine x_fld1 (s := s) hf ?_
          refine br_f (by decide) ?_
          refine r_held R lt hr ?_
          rw [cr_n g z]
          refine br_t (nI_pos' (by omega)) ?_
          rw [e3, hh_cl (by omega)]
          refine And.intro (vp_in_nI (by omega) (by omega)) ?_
          refine x_res (s := s) I.2.1 (bd_4 dp) F ?_
          rw [ix.1, e1]
          exact And.intro (vp_in_nI ix.2 (by omega)) (nm_e H)
        · refine Y2 post (y_fld1 hf ?_)
          refine br_t rfl ?_
          rw [ix2.1, e2, ix.1, e1]
          refine And.intro (vp_in_nI ix2.2 (by omega)) (nm_e (br_f (nI_ne0 (by omega) (by omega)) ?_))
          rw [e4, e5]
          exact And.intro (vp_in_nI (by omega) (by omega)) (And.intro (vp_in_nI ix.2 (by omega)) (nm_r (hh_nI_up rgN _ _) H))
    · refine ⟨-4, (hh_X nl lb ld cc cs ct (nI oN) (nI tN) (nI dN) oc lv pa ch rg hd mk s), ((nI oN), (nI tN), (nI dN), bt, (fun o => nI (ow o)), bv, (fun j => nI (fd j)), bm, lv, pa, (fun j => nI (rgN j))), rel_mk R, fun post H => ?_, fun post H => ?_⟩
      · unfold wpX_load
        refine X _ ?_
        refine br_t rfl ?_
        refine x_fld0 (s := s) g4 ?_
        exact br_t rfl H
      · exact Y2 post (y_fld0 g4 (br_f (by decide) H))
theorem m_setValue (R : hh_R0 oN tN dN oc lv pa ch rg hd mk s g dp bt ow bv fd rgN) (v1 v2 v3 : Int32) : hh_Out (fun post => wpX_setValue post (hh_X nl lb ld cc cs ct (nI oN) (nI tN) (nI dN) oc lv pa ch rg hd mk s) v1 v2 v3) (fun post => wpY_setValue post ((nI oN), (nI tN), (nI dN), bt, (fun o => nI (ow o)), bv, (fun j => nI (fd j)), bm, lv, pa, (fun j => nI (rgN j))) v1 v2 v3) := by
  have h8 := R.1.2.1
  rcases r_leaf (s := s) (nl := nl) (lb := lb) (ld := ld) (cc := cc) (cs := cs) (ct := ct) (oN := oN) (tN := tN) (dN := dN) (oc := oc) (lv := lv) (pa := pa) (ch := ch) (rg := rg) (hd := hd) (mk := mk) (bm := bm) R v1 v2 v2 with ⟨r, r0, X, Y⟩ | ⟨t, ht, rfl, lt, nb, Y, ⟨ng, X⟩ | ⟨g2, g3, X⟩⟩
  · refine ⟨r, (hh_X nl lb ld cc cs ct (nI oN) (nI tN) (nI dN) oc lv pa ch rg hd mk s), ((nI oN), (nI tN), (nI dN), bt, (fun o => nI (ow o)), bv, (fun j => nI (fd j)), bm, lv, pa, (fun j => nI (rgN j))), rel_mk R, fun post H => ?_, fun post H => ?_⟩
    · unfold wpX_setValue
      refine X _ ?_
      exact br_f r0 H
    · unfold wpY_setValue
      refine Y _ ?_
      exact br_f r0 H
  · refine ⟨-3, (hh_X nl lb ld cc cs ct (nI oN) (nI tN) (nI dN) oc lv pa ch rg hd mk s), ((nI oN), (nI tN), (nI dN), bt, (fun o => nI (ow o)), bv, (fun j => nI (fd j)), bm, lv, pa, (fun j => nI (rgN j))), rel_mk R, fun post H => ?_, fun post H => ?_⟩
    · unfold wpX_setValue
      refine X _ ?_
      exact br_f (by decide) H
    · unfold wpY_setValue
      refine Y _ ?_
      refine br_t rfl ?_
      have g2 : ¬ hh_gd v2 := fun z => ng ⟨z, z⟩
      refine y_reg0 g2 ?_
      exact br_f (by decide) H
  · obtain ⟨d, hd4, rfl⟩ := g2
    have ix := hh_ix (t := t) (r := d) (by omega) hd4
    have e1 : (nI (t * 4 + d)).toNatClampNeg = t * 4 + d := hh_cl (by omega)
    by_cases z : rgN (t * 4 + d) = 0
    · refine ⟨-5, (hh_X nl lb ld cc cs ct (nI oN) (nI tN) (nI dN) oc lv pa ch rg hd mk s), ((nI oN), (nI tN), (nI dN), bt, (fun o => nI (ow o)), bv, (fun j => nI (fd j)), bm, lv, pa, (fun j => nI (rgN j))), rel_mk R, fun post H => ?_, fun post H => ?_⟩
      · unfold wpX_setValue
        refine X _ ?_
        refine br_t rfl ?_
        refine r_held R lt hd4 ?_
        rw [z]
        exact br_f hh_m1' H
      · unfold wpY_setValue
        refine Y _ ?_
        refine br_t rfl ?_
        refine y_reg1 hd4 ?_
        refine br_t rfl ?_
        rw [ix.1, e1]
        exact And.intro (vp_in_nI ix.2 (by omega)) (nm_r (congrArg nI z) (br_t rfl H))
    · have to := r_th R (R.2.2.2.2.2.2.2.1 t d lt hd4) z
      obtain ⟨T, K, o8, o24, tb, eoc, I, RM, f25, r25, mz⟩ := R
      have kt := cm_th I.2.1 to.1
      have c5 := cm_512 I.2.1 to.1
      have R' : hh_R0 oN tN dN oc lv pa ch rg hd mk (hs_fr s, hs_qd s, hs_ho s, hs_fc s, hs_lc s, hs_kh s, hs_kf s, hs_nx s, upd (hs_cv s) (gg_cl g (rgN (t * 4 + d))) (v3 &&& 65535), hs_fw s, hs_cf s, hs_qu s) g dp bt ow (upd bv (rgN (t * 4 + d)) (v3 &&& 65535)) fd rgN := by
        refine ⟨T, K, o8, o24, tb, eoc, ⟨I.1, I.2.1, I.2.2.1, ?_, I.2.2.2.2⟩, RM, f25, r25, mz⟩
        intro o ho
        show upd (hs_cv s) (gg_cl g (rgN (t * 4 + d))) (v3 &&& 65535) (gg_cl g o) = upd bv (rgN (t * 4 + d)) (v3 &&& 65535) o
        by_cases e : o = rgN (t * 4 + d)
        · subst e; rw [pk_us, pk_us]
        · rw [pk_un e, pk_un (fun w => e (cm_cl I.2.1 ho to.1 w))]
          exact I.2.2.2.1 o ho
      refine ⟨0, (hh_X nl lb ld cc cs ct (nI oN) (nI tN) (nI dN) oc lv pa ch rg hd mk (hs_fr s, hs_qd s, hs_ho s, hs_fc s, hs_lc s, hs_kh s, hs_kf s, hs_nx s, upd (hs_cv s) (gg_cl g (rgN (t * 4 + d))) (v3 &&& 65535), hs_fw s, hs_cf s, hs_qu s)), ((nI oN), (nI tN), (nI dN), bt, (fun o => nI (ow o)), upd bv (rgN (t * 4 + d)) (v3 &&& 65535), (fun j => nI (fd j)), bm, lv, pa, (fun j => nI (rgN j))), rel_mk R', fun post H => ?_, fun post H => ?_⟩
      · unfold wpX_setValue
        refine X _ ?_
        refine br_t rfl ?_
        refine r_held ⟨T, K, o8, o24, tb, eoc, I, RM, f25, r25, mz⟩ lt hd4 ?_
        rw [cr_n g z]
        refine br_t (nI_pos' (by omega)) ?_
        rw [hh_cl (by omega)]
        exact And.intro (vp_in_nI c5 (by omega)) (nm_e H)
      · unfold wpY_setValue
        refine Y _ ?_
        refine br_t rfl ?_
        refine y_reg1 hd4 ?_
        refine br_t rfl ?_
        rw [ix.1, e1]
        refine And.intro (vp_in_nI ix.2 (by omega)) (nm_r (e' := nI (rgN (t * 4 + d))) rfl (br_f (nI_ne0 (by omega) (by omega)) ?_))
        rw [hh_cl (by omega)]
        exact And.intro (vp_in_nI (by omega) (by omega)) (nm_e H)
end
end
section
/-! alloc -/
theorem cn_rng {m : Nat} : ∀ n : Nat, hh_cn (fun o => 1 ≤ o ∧ o ≤ m) (n + 1) = if n ≤ m then n else m := by
  intro n
  induction n with
  | zero => rw [cn_f (by omega), cn_0, if_pos (by omega)]
  | succ n ih =>
    by_cases h : n + 1 ≤ m
    · rw [cn_t ⟨by omega, h⟩, ih, if_pos h, if_pos (by omega)]
    · rw [cn_f (fun z => h z.2), ih, if_neg h]
      by_cases h2 : n ≤ m
      · rw [if_pos h2]; omega
      · rw [if_neg h2]
section
variable {nl lb ld cc cs ct oc : Int32} {oN tN dN : Nat} {lv pa ch rg hd mk : Nat → Int32} {s : HST}
variable {g : HG} {dp ow fd rgN : Nat → Nat} {bt bv bm : Nat → Int32}
theorem r_alloc (R : hh_R0 oN tN dN oc lv pa ch rg hd mk s g dp bt ow bv fd rgN) {t r o c : Nat} {v : Int32} (lt : lv t ≠ 0) (hr : r < 4) (z0 : bt o = 0) (o1 : 1 ≤ o) (o2 : o ≤ oN) (c5 : c < 512) (nu : ¬ gg_us g c)
    {fr : Int32} {fc lc kh kf nx : Nat → Int32} (CS' : hh_CS fc lc kh kf nx fr (fun x => gg_us g x ∨ x = c) (hh_up (gg_hp g) c t)) :
    hh_R0 oN tN dN (oc + 1) lv pa ch (upd rg (t * 4 + r) (nI c)) hd mk (fr, hs_qd s, upd (hs_ho s) t (hs_ho s t + 1), fc, lc, kh, kf, nx, upd (hs_cv s) c v, upd (hs_fw s) c (-1), upd (upd (hs_cf s) (c * 2) (-1)) (c * 2 + 1) (-1), hs_qu s)
      (gg_add g c t o) dp (upd bt o 1) (hh_up ow o t) (upd bv o v) (hh_up (hh_up fd (2 * o) 0) (2 * o + 1) 0) (hh_up rgN (t * 4 + r) o) := by
  have G := r_go R
  have t8 := r_t8 R lt
  obtain ⟨T, K, o8, o24, tb, eoc, I, RM, f25, r25, mz⟩ := R
  obtain ⟨CS, CM, FM, VM, HO⟩ := I
  have th1 : ∀ p, hh_th (upd bt o 1) p ↔ hh_th bt p ∨ p = o := fun p => by
    show upd bt o 1 p ≠ 0 ↔ bt p ≠ 0 ∨ p = o
    by_cases e : p = o
    · subst e; rw [pk_us]; exact ⟨fun _ => Or.inr rfl, fun _ => by decide⟩
    · rw [pk_un e]; exact ⟨Or.inl, fun z => z.elim id (fun w => absurd w e)⟩
  have no : ¬ hh_th bt o := fun z => z z0
  have old : ∀ p, p ≠ o → hh_th (upd bt o 1) p → hh_th bt p := fun p e h => ((th1 p).mp h).elim id (fun w => absurd w e)
  have ncl : ∀ p, hh_th bt p → gg_cl g p ≠ c := fun p h z => nu (z ▸ (cm_th CM h).2.2.1)
  refine ⟨T, K, o8, o24, ?_, ?_, ⟨CS', ?_, ?_, ?_, ?_⟩, ?_, ?_, ?_, mz⟩
  · intro p hp
    rcases (th1 p).mp hp with h | h
    · exact tb p h
    · omega
  · rw [eoc, cn_add1 (p := hh_th bt) (q := hh_th (upd bt o 1)) (k := o) no ((th1 o).mpr (Or.inr rfl)) 25 (by omega) (fun i _ hi => ⟨fun h => (th1 i).mpr (Or.inl h), old i hi⟩)]
    exact nI_1 _
  · refine cm_alloc CM no o1 (by omega) nu c5 lt ?_ ?_ th1
    · exact pk_us
    · intro x hx; exact pk_un hx
  · intro p f hp hf
    have e2 : (2 * p + f) / 2 = p := by omega
    show hh_Rf (gg_add g c t o) (hh_an (hh_pr pa)) (upd (upd (hs_cf s) (c * 2) (-1)) (c * 2 + 1) (-1) (gg_cl (gg_add g c t o) p * 2 + f)) (hh_up (hh_up fd (2 * o) 0) (2 * o + 1) 0 (2 * p + f)) (hh_up ow o t ((2 * p + f) / 2))
    rw [e2, ga_cl]
    by_cases e : p = o
    · subst e
      left
      rw [hh_us]
      have hf' : f = 0 ∨ f = 1 := by omega
      rcases hf' with rfl | rfl
      · rw [pk_un (by omega), Nat.add_zero, pk_us, hh_un (by omega), Nat.add_zero, hh_us]
        exact ⟨rfl, rfl⟩
      · rw [pk_us, hh_us]
        exact ⟨rfl, rfl⟩
    · have hp' := old p e hp
      have n1 := ncl p hp'
      rw [hh_un e, hh_un e, pk_un (by omega), pk_un (by omega), hh_un (by omega), hh_un (by omega)]
      have F := FM p f hp' hf
      have F : hh_Rf g (hh_an (hh_pr pa)) (hs_cf s (gg_cl g p * 2 + f)) (fd (2 * p + f)) (ow ((2 * p + f) / 2)) := F
      rw [e2] at F
      exact rf_ext (ext_add nu) F
  · intro p hp
    show upd (hs_cv s) c v (gg_cl (gg_add g c t o) p) = upd bv o v p
    rw [ga_cl]
    by_cases e : p = o
    · subst e; rw [hh_us, pk_us, pk_us]
    · have hp' := old p e hp
      rw [hh_un e, pk_un (ncl p hp'), pk_un e]
      exact VM p hp'
  · intro j hj
    show upd (hs_ho s) t (hs_ho s t + 1) j = _
    by_cases e : j = t
    · subst e
      rw [pk_us, HO j hj, cn_add1 (p := fun p => hh_th bt p ∧ ow p = j) (q := fun p => hh_th (upd bt o 1) p ∧ hh_up ow o j p = j) (k := o) (fun z => no z.1) ⟨(th1 o).mpr (Or.inr rfl), hh_us⟩ 25 (by omega) (fun i _ hi => by
        rw [hh_un hi]
        exact ⟨fun h => ⟨(th1 i).mpr (Or.inl h.1), h.2⟩, fun h => ⟨old i hi h.1, h.2⟩⟩)]
      exact nI_1 _
    · rw [pk_un e, HO j hj]
      refine congrArg nI (cn_congr 25 (fun i _ => ?_))
      by_cases hi : i = o
      · subst hi
        rw [hh_us]
        exact ⟨fun h => absurd h.1 no, fun h => absurd h.2.symm e⟩
      · rw [hh_un hi]
        exact ⟨fun h => ⟨(th1 i).mpr (Or.inl h.1), h.2⟩, fun h => ⟨old i hi h.1, h.2⟩⟩
  · intro t' r' ht' hr'
    by_cases e : t' * 4 + r' = t * 4 + r
    · have et : t' = t := by omega
      rw [e, pk_us, hh_us, et]
      exact Or.inr ⟨c, rfl, Or.inr rfl, by rw [ga_ob, hh_us], by rw [ga_hp, hh_us]; exact G.1 t⟩
    · rw [pk_un e, hh_un e]
      exact rf_ext (ext_add nu) (RM t' r' ht' hr')
  · intro j
    by_cases e : j = 2 * o + 1
    · rw [e, hh_us]; omega
    · rw [hh_un e]
      by_cases e' : j = 2 * o
      · rw [e', hh_us]; omega
      · rw [hh_un e']; exact f25 j
  · intro j
    by_cases e : j = t * 4 + r
    · rw [e, hh_us]; omega
    · rw [hh_un e]; exact r25 j
theorem y_al29 {t r o : Nat} {v : Int32} (ht : t < 8) (hr : r < 4) (z0 : bt o = 0) (o2 : o ≤ oN) (o24 : oN ≤ 24) {post : Int32 → SY → Prop}
    (H : post 0 ((nI oN), (nI tN), (nI dN), upd bt o 1, (fun p => nI (hh_up ow o t p)), upd bv o (v &&& 65535), (fun j => nI (hh_up (hh_up fd (2 * o) 0) (2 * o + 1) 0 j)), bm, lv, pa, (fun j => nI (hh_up rgN (t * 4 + r) o j)))) :
    ∀ d i : Nat, i + d = o → (∀ j, i ≤ j → j < o → bt j ≠ 0) → wY_alloc_29 post (nI t) (nI r) v (nI oN) (nI tN) (nI dN) bt (fun o => nI (ow o)) bv (fun j => nI (fd j)) bm lv pa (fun j => nI (rgN j)) (d + 1) (nI i) := by
  intro d
  induction d with
  | zero =>
    intro i hi h
    have e : i = o := by omega
    subst e
    have ix := hh_ix ht hr
    have ei : (nI i).toNatClampNeg = i := hh_cl (by omega)
    have vi : vp_in (nI i) 25 := vp_in_nI (by omega) (by omega)
    have e1 : (nI (t * 4 + r)).toNatClampNeg = t * 4 + r := hh_cl (by omega)
    have e2 : (2 : Int32) * nI i = nI (2 * i) := pk_mul 2 i
    have e3 : (nI (2 * i)).toNatClampNeg = 2 * i := hh_cl (by omega)
    have e4 : (nI (2 * i + 1)).toNatClampNeg = 2 * i + 1 := hh_cl (by omega)
    refine br_f (nI_nlt (by omega) (by omega)) (And.intro vi (br_t (by rw [ei]; exact z0) (And.intro vi (nm_r (e' := upd bt i 1) (by rw [ei, hh_b1]) (And.intro vi (nm_r (e' := fun p => nI (hh_up ow i t p)) (by rw [ei]; exact hh_nI_up _ _ _) (And.intro vi (nm_r (e' := upd bv i (v &&& 65535)) (by rw [ei]) (And.intro ?_ (nm_r (e' := fun j => nI (hh_up fd (2 * i) 0 j)) ?_ (And.intro ?_ (nm_r (e' := fun j => nI (hh_up (hh_up fd (2 * i) 0) (2 * i + 1) 0 j)) ?_ (And.intro ?_ (nm_r (e' := fun j => nI (hh_up rgN (t * 4 + r) i j)) ?_ H))))))))))))))
    · rw [e2]; exact vp_in_nI (by omega) (by omega)
    · rw [e2, e3]; exact hh_nI_up fd _ 0
    · rw [e2, nI_1]; exact vp_in_nI (by omega) (by omega)
    · rw [e2, nI_1, e4]; exact hh_nI_up (hh_up fd (2 * i) 0) _ 0
    · rw [ix.1]; exact vp_in_nI ix.2 (by omega)
    · rw [ix.1, e1]; exact hh_nI_up rgN _ _
  | succ d ih =>
    intro i hi h
    have ei : (nI i).toNatClampNeg = i := hh_cl (by omega)
    refine br_f (nI_nlt (by omega) (by omega)) (And.intro (vp_in_nI (by omega) (by omega)) (br_f (by rw [ei]; exact h i (Nat.le_refl _) (by omega)) (nm_r (nI_1 i) (ih (i + 1) (by omega) (fun j h1 h2 => h j (by omega) h2)))))
theorem y_al29F {t r : Nat} {v : Int32} (o24 : oN ≤ 24) {post : Int32 → SY → Prop} (H : post (-6) ((nI oN), (nI tN), (nI dN), bt, (fun o => nI (ow o)), bv, (fun j => nI (fd j)), bm, lv, pa, (fun j => nI (rgN j)))) :
    ∀ d i : Nat, i + d = oN + 1 → (∀ j, i ≤ j → j ≤ oN → bt j ≠ 0) → wY_alloc_29 post (nI t) (nI r) v (nI oN) (nI tN) (nI dN) bt (fun o => nI (ow o)) bv (fun j => nI (fd j)) bm lv pa (fun j => nI (rgN j)) (d + 1) (nI i) := by
  intro d
  induction d with
  | zero =>
    intro i hi h
    exact br_t (nI_lt (by omega) (by omega)) H
  | succ d ih =>
    intro i hi h
    have ei : (nI i).toNatClampNeg = i := hh_cl (by omega)
    refine br_f (nI_nlt (by omega) (by omega)) (And.intro (vp_in_nI (by omega) (by omega)) (br_f (by rw [ei]; exact h i (Nat.le_refl _) (by omega)) (nm_r (nI_1 i) (ih (i + 1) (by omega) (fun j h1 h2 => h j (by omega) h2)))))
theorem hh_least (P : Nat → Prop) : ∀ n : Nat, P n → ∃ k, k ≤ n ∧ P k ∧ ∀ j, j < k → ¬ P j := by
  intro n
  induction n using Nat.strongRecOn with
  | _ n ih =>
    intro h
    by_cases c : ∃ j, j < n ∧ P j
    · obtain ⟨j, hj, pj⟩ := c
      obtain ⟨k, hk, pk, l⟩ := ih j hj pj
      exact ⟨k, by omega, pk, l⟩
    · exact ⟨n, Nat.le_refl _, h, fun j hj pj => c ⟨j, hj, pj⟩⟩
theorem m_alloc (R : hh_R0 oN tN dN oc lv pa ch rg hd mk s g dp bt ow bv fd rgN) (v1 v2 v3 : Int32) : hh_Out (fun post => wpX_alloc post (hh_X nl lb ld cc cs ct (nI oN) (nI tN) (nI dN) oc lv pa ch rg hd mk s) v1 v2 v3) (fun post => wpY_alloc post ((nI oN), (nI tN), (nI dN), bt, (fun o => nI (ow o)), bv, (fun j => nI (fd j)), bm, lv, pa, (fun j => nI (rgN j))) v1 v2 v3) := by
  have h8 := R.1.2.1
  rcases r_leaf (s := s) (nl := nl) (lb := lb) (ld := ld) (cc := cc) (cs := cs) (ct := ct) (oN := oN) (tN := tN) (dN := dN) (oc := oc) (lv := lv) (pa := pa) (ch := ch) (rg := rg) (hd := hd) (mk := mk) (bm := bm) R v1 v2 v2 with ⟨r, r0, X, Y⟩ | ⟨t, ht, rfl, lt, nb, Y, ⟨ng, X⟩ | ⟨g2, g3, X⟩⟩
  · refine ⟨r, (hh_X nl lb ld cc cs ct (nI oN) (nI tN) (nI dN) oc lv pa ch rg hd mk s), ((nI oN), (nI tN), (nI dN), bt, (fun o => nI (ow o)), bv, (fun j => nI (fd j)), bm, lv, pa, (fun j => nI (rgN j))), rel_mk R, fun post H => ?_, fun post H => ?_⟩
    · unfold wpX_alloc
      refine X _ ?_
      exact br_f r0 H
    · unfold wpY_alloc
      refine Y _ ?_
      exact br_f r0 H
  · refine ⟨-3, (hh_X nl lb ld cc cs ct (nI oN) (nI tN) (nI dN) oc lv pa ch rg hd mk s), ((nI oN), (nI tN), (nI dN), bt, (fun o => nI (ow o)), bv, (fun j => nI (fd j)), bm, lv, pa, (fun j => nI (rgN j))), rel_mk R, fun post H => ?_, fun post H => ?_⟩
    · unfold wpX_alloc
      refine X _ ?_
      exact br_f (by decide) H
    · unfold wpY_alloc
      refine Y _ ?_
      refine br_t rfl ?_
      have g2 : ¬ hh_gd v2 := fun z => ng ⟨z, z⟩
      refine y_reg0 g2 ?_
      exact br_f (by decide) H
  · obtain ⟨d, hd4, rfl⟩ := g2
    have o24 := R.2.2.2.1
    have tb := R.2.2.2.2.1
    have eoc := R.2.2.2.2.2.1
    have I := R.2.2.2.2.2.2.1
    have th0 : ¬ hh_th bt 0 := cm_0 I.2.1
    have sub : ∀ i, i < 25 → hh_th bt i → 1 ≤ i ∧ i ≤ oN := fun i _ h => ⟨by
      rcases Nat.eq_zero_or_pos i with e | e
      · rw [e] at h; exact absurd h th0
      · exact e, tb i h⟩
    have full : hh_cn (fun o => 1 ≤ o ∧ o ≤ oN) 25 = oN := by
      rw [cn_rng 24]
      by_cases c : 24 ≤ oN
      · rw [if_pos c]; omega
      · rw [if_neg c]
    have cle := cn_le (p := hh_th bt) 25
    by_cases fr : ∃ o, 1 ≤ o ∧ o ≤ oN ∧ bt o = 0
    · obtain ⟨o', a1, a2, a3⟩ := fr
      obtain ⟨o, ho, ⟨o1, z0⟩, least⟩ := hh_least (fun o => 1 ≤ o ∧ bt o = 0) o' ⟨a1, a3⟩
      have lt2 : hh_cn (hh_th bt) 25 < oN := by
        refine Nat.lt_of_not_le fun z => ?_
        have := cn_same (p := hh_th bt) (q := fun o => 1 ≤ o ∧ o ≤ oN) 25 sub (by rw [full]; exact z) o (by omega) ⟨o1, by omega⟩
        exact this z0
      obtain ⟨c, fr, fc, lc, kh, kf, nx, c5, nu, CS', Wn⟩ := x_new (s := s) (nl := nl) (lb := lb) (ld := ld) (cc := cc) (cs := cs) (ct := ct) (oN := oN) (tN := tN) (dN := dN) (oc := oc) (lv := lv) (pa := pa) (ch := ch) (rg := rg) (hd := hd) (mk := mk) I.1 (cm_pig I.2.1 (bd_4 dp)) (h := t) (by omega)
      have ix := hh_ix (t := t) (r := d) (by omega) hd4
      have e1 : (nI (t * 4 + d)).toNatClampNeg = t * 4 + d := hh_cl (by omega)
      have ec : (nI c).toNatClampNeg = c := hh_cl (by omega)
      have c2 : nI c * 2 = nI (c * 2) := pk_mul _ 2
      have ec2 : (nI (c * 2)).toNatClampNeg = c * 2 := hh_cl (by omega)
      have ec3 : (nI (c * 2 + 1)).toNatClampNeg = c * 2 + 1 := hh_cl (by omega)
      refine ⟨0, (hh_X nl lb ld cc cs ct (nI oN) (nI tN) (nI dN) (oc + 1) lv pa ch (upd rg (t * 4 + d) (nI c)) hd mk (fr, hs_qd s, upd (hs_ho s) t (hs_ho s t + 1), fc, lc, kh, kf, nx, upd (hs_cv s) c (v3 &&& 65535), upd (hs_fw s) c (-1), upd (upd (hs_cf s) (c * 2) (-1)) (c * 2 + 1) (-1), hs_qu s)),
        ((nI oN), (nI tN), (nI dN), upd bt o 1, (fun p => nI (hh_up ow o t p)), upd bv o (v3 &&& 65535), (fun j => nI (hh_up (hh_up fd (2 * o) 0) (2 * o + 1) 0 j)), bm, lv, pa, (fun j => nI (hh_up rgN (t * 4 + d) o j))),
        rel_mk (r_alloc R lt hd4 z0 o1 (by omega) c5 nu CS'), fun post H => ?_, fun post H => ?_⟩
      · unfold wpX_alloc
        refine X _ ?_
        refine br_t rfl (br_t (by rw [eoc]; exact nI_lt lt2 (by omega)) ?_)
        refine Wn _ ?_
        refine br_t (nI_pos' (by omega)) (nm_e ?_)
        rw [c2, nI_1, ec, ec2, ec3, ix.1, e1]
        exact And.intro (vp_in_nI c5 (by omega)) (nm_e (And.intro (vp_in_nI (by omega) (by omega)) (nm_e (And.intro (vp_in_nI (by omega) (by omega)) (nm_e (And.intro (vp_in_nI ix.2 (by omega)) (nm_e H)))))))
      · unfold wpY_alloc
        refine Y _ ?_
        refine br_t rfl ?_
        refine y_reg1 hd4 ?_
        refine br_t rfl ⟨o - 1 + 1, ?_⟩
        exact y_al29 (by omega) hd4 z0 (by omega) o24 H (o - 1) 1 (by omega) (fun j h1 h2 z => least j h2 ⟨h1, z⟩)
    · have allt : ∀ j, 1 ≤ j → j ≤ oN → bt j ≠ 0 := fun j h1 h2 z => fr ⟨j, h1, h2, z⟩
      have ge : oN ≤ hh_cn (hh_th bt) 25 := by
        have := cn_mono (p := fun o => 1 ≤ o ∧ o ≤ oN) (q := hh_th bt) 25 (fun i _ h => allt i h.1 h.2)
        omega
      refine ⟨-6, (hh_X nl lb ld cc cs ct (nI oN) (nI tN) (nI dN) oc lv pa ch rg hd mk s), ((nI oN), (nI tN), (nI dN), bt, (fun o => nI (ow o)), bv, (fun j => nI (fd j)), bm, lv, pa, (fun j => nI (rgN j))), rel_mk R, fun post H => ?_, fun post H => ?_⟩
      · unfold wpX_alloc
        refine X _ ?_
        exact br_t rfl (br_f (by rw [eoc]; exact nI_nlt ge (by omega)) H)
      · unfold wpY_alloc
        refine Y _ ?_
        refine br_t rfl ?_
        refine y_reg1 hd4 ?_
        refine br_t rfl ⟨oN + 1, ?_⟩
        exact y_al29F o24 H oN 1 (by omega) allt
end
end
section
/-! fork -/
theorem pit_fork {nd : Nat → Prop} {pr dp : Nat → Nat} (T : hh_TR nd pr dp) {c t : Nat} (hc : ¬ nd c) : ∀ k b : Nat, nd b → hh_pit (hh_up pr c t) k b = hh_pit pr k b := by
  intro k
  induction k with
  | zero => intro b _; rfl
  | succ k ih =>
    intro b hb
    have e : b ≠ c := fun z => hc (z ▸ hb)
    show hh_pit (hh_up pr c t) k (hh_up pr c t b) = hh_pit pr k (pr b)
    rw [hh_un e]
    exact ih (pr b) (T b hb).1
theorem rf_an {g : HG} {an an' : Nat → Nat → Prop} {x : Int32} {o h : Nat} (R : hh_Rf g an x o h) (e : ∀ a, an a h → an' a h) : hh_Rf g an' x o h := by
  rcases R with R | ⟨c, e1, u, e2, a⟩
  · exact Or.inl R
  · exact Or.inr ⟨c, e1, u, e2, e _ a⟩
section
variable {nl lb ld cc cs ct oc : Int32} {oN tN dN : Nat} {lv pa ch rg hd mk : Nat → Int32} {s : HST}
variable {g : HG} {dp ow fd rgN : Nat → Nat} {bt bv bm : Nat → Int32}
theorem r_fork (R : hh_R0 oN tN dN oc lv pa ch rg hd mk s g dp bt ow bv fd rgN) {t c : Nat} (lt : lv t ≠ 0) (dt : dp t < dN) (cN : c < tN) (zc : lv c = 0) {rg' : Nat → Int32} {rgN' : Nat → Nat}
    (g1 : ∀ r, r < 4 → rg' (c * 4 + r) = rg (t * 4 + r)) (g2 : ∀ j, j < c * 4 ∨ c * 4 + 4 ≤ j → rg' j = rg j)
    (n1 : ∀ r, r < 4 → rgN' (c * 4 + r) = rgN (t * 4 + r)) (n2 : ∀ j, j < c * 4 ∨ c * 4 + 4 ≤ j → rgN' j = rgN j) (n3 : ∀ j, rgN' j < 25) :
    hh_R0 oN tN dN oc (upd lv c 1) (upd pa c (nI t)) (upd (upd ch c 0) t (upd ch c 0 t + 1)) rg' (upd hd c (hd t + 1)) mk (hs_fr s, hs_qd s, upd (hs_ho s) c 0, upd (hs_fc s) c (-1), upd (hs_lc s) c (-1), hs_kh s, hs_kf s, hs_nx s, hs_cv s, hs_fw s, hs_cf s, hs_qu s) g (hh_up dp c (dp t + 1)) bt ow bv fd rgN' := by
  have G := r_go R
  have t8 := r_t8 R lt
  have Wo := fun o (h : bt o ≠ 0) => (r_ow R h).1
  obtain ⟨T, K, o8, o24, tb, eoc, I, RM, f25, r25, mz⟩ := R
  have TT := tk_tr T
  obtain ⟨T1, T2, T3, T4, T5, T6, T7, T8, T9, T10⟩ := T
  obtain ⟨CS, CM, FM, VM, HO⟩ := I
  have c0 : c ≠ 0 := fun z => T5 (z ▸ zc)
  have tc : t ≠ c := fun z => lt (z ▸ zc)
  have ne : ∀ j, lv j ≠ 0 → j ≠ c := fun j h z => h (z ▸ zc)
  have lv1 : ∀ j, upd lv c 1 j ≠ 0 ↔ lv j ≠ 0 ∨ j = c := fun j => by
    by_cases e : j = c
    · subst e; rw [pk_us]; exact ⟨fun _ => Or.inr rfl, fun _ => by decide⟩
    · rw [pk_un e]; exact ⟨Or.inl, fun z => z.elim id (fun w => absurd w e)⟩
  have pr' : hh_pr (upd pa c (nI t)) = hh_up (hh_pr pa) c t := by
    funext j
    show (upd pa c (nI t) j).toNatClampNeg = hh_up (hh_pr pa) c t j
    by_cases e : j = c
    · subst e; rw [pk_us, hh_us]; exact hh_cl (by omega)
    · rw [pk_un e, hh_un e]; rfl
  have an' : ∀ a b, lv b ≠ 0 → hh_an (hh_pr pa) a b → hh_an (hh_pr (upd pa c (nI t))) a b := by
    intro a b hb ⟨k, e⟩
    refine ⟨k, ?_⟩
    rw [pr', pit_fork (nd := hh_nd lv) TT.1 (fun z => z zc) k b hb]
    exact e
  have dpo : ∀ j, lv j ≠ 0 → hh_up dp c (dp t + 1) j = dp j := fun j h => hh_un (ne j h)
  have pne : ∀ j, lv j ≠ 0 → pa j ≠ nI c := by
    intro j hj e
    by_cases j0 : j = 0
    · rw [j0, T7] at e
      exact hh_mn (n := c) (by omega) e.symm
    · obtain ⟨p, hp, ep, hl, _⟩ := T10 j hj j0
      rw [ep] at e
      exact ne p hl (hh_ni (by omega) (by omega) e)
  refine ⟨⟨T1, T2, T3, T4, (lv1 0).mpr (Or.inl T5), ?_, ?_, ?_, ?_, ?_⟩, ?_, o8, o24, tb, eoc, ⟨?_, ?_, ?_, VM, ?_⟩, ?_, f25, n3, mz⟩
  · rw [dpo 0 T5]; exact T6
  · rw [pk_un (fun z => c0 z.symm)]; exact T7
  · rw [pk_un (by omega)]; exact T8
  · intro j hj
    rcases (lv1 j).mp hj with h | h
    · rw [pk_un (ne j h), dpo j h]; exact T9 j h
    · subst h
      rw [pk_us, hh_us, (T9 t lt).2.1, nI_1]
      exact ⟨cN, rfl, by omega⟩
  · intro j hj j0
    rcases (lv1 j).mp hj with h | h
    · obtain ⟨p, hp, ep, hl, e⟩ := T10 j h j0
      refine ⟨p, hp, ?_, (lv1 p).mpr (Or.inl hl), ?_⟩
      · rw [pk_un (ne j h)]; exact ep
      · rw [dpo j h, dpo p hl]; exact e
    · subst h
      refine ⟨t, t8, pk_us, (lv1 t).mpr (Or.inl lt), ?_⟩
      rw [hh_us, dpo t lt]
  · intro j hj
    rcases (lv1 j).mp hj with h | h
    · by_cases e : j = t
      · subst e
        rw [pk_us, pk_un tc, K j h, cn_add1 (p := fun i => lv i ≠ 0 ∧ pa i = nI j) (q := fun i => upd lv c 1 i ≠ 0 ∧ upd pa c (nI j) i = nI j) (k := c) (fun z => z.1 zc) ⟨(lv1 c).mpr (Or.inr rfl), pk_us⟩ 8 (by omega) (fun i _ hi => by rw [pk_un hi, pk_un hi])]
        exact nI_1 _
      · rw [pk_un e, pk_un (ne j h), K j h]
        refine congrArg nI (cn_congr 8 (fun i _ => ?_))
        by_cases hi : i = c
        · subst hi
          rw [pk_us]
          have j8 := (TT.2.2 j h).1
          exact ⟨fun z => absurd zc z.1, fun z => by
            have z2 := z.2
            rw [pk_us] at z2
            exact absurd (hh_ni (by omega) (by omega) z2).symm e⟩
        · rw [pk_un hi, pk_un hi]
    · subst h
      rw [pk_un (fun z => tc z.symm), pk_us, cn_z 8 (fun i _ hi => ?_)]
      · rfl
      · by_cases e : i = j
        · subst e
          have h2 := hi.2
          rw [pk_us] at h2
          exact tc (hh_ni (by omega) (by omega) h2)
        · have h1 := hi.1
          have h2 := hi.2
          rw [pk_un e] at h1 h2
          exact pne i h1 h2
  · refine cs_clear CS (h := c) (by omega) (fun x u z => ?_) pk_us (fun j hj => pk_un hj) (fun j hj => pk_un hj)
    have := (cm_us CM u).2.2
    rw [z] at this
    exact this zc
  · refine cm_map (us' := gg_us g) (hp' := gg_hp g) CM ?_ ?_ ?_
    · intro x u
      have a := cm_us CM u
      refine ⟨u, a.2.1, (lv1 _).mpr (Or.inl a.2.2), fun n hn => ?_⟩
      show n ≤ 3 - hh_up dp c (dp t + 1) (ow (gg_ob g x))
      rw [dpo _ (Wo _ a.2.1)]
      exact hn
    · intro x y u u' e a
      exact ⟨u', an' _ _ (cm_us CM u).2.2 a⟩
    · intro o ho
      have a := cm_th CM ho
      exact ⟨ho, a.2.2.1, a.2.2.2.2⟩
  · intro o f ho hf
    have F := FM o f ho hf
    have e2 : (2 * o + f) / 2 = o := by omega
    refine rf_an F (fun a h => an' a _ ?_ h)
    show lv (ow ((2 * o + f) / 2)) ≠ 0
    rw [e2]
    exact Wo o ho
  · intro j hj
    show upd (hs_ho s) c 0 j = _
    by_cases e : j = c
    · subst e
      rw [pk_us, cn_z 25 (fun i _ hi => ?_)]
      · rfl
      · have := Wo i hi.1
        rw [hi.2] at this
        exact this zc
    · rw [pk_un e]; exact HO j hj
  · intro j r hj hr
    rcases (lv1 j).mp hj with h | h
    · have e := ne j h
      rw [g2 _ (by omega), n2 _ (by omega)]
      exact rf_an (RM j r h hr) (fun a ha => an' a j h ha)
    · subst h
      rw [g1 r hr, n1 r hr]
      have F : hh_Rf g (hh_an (hh_pr (upd pa j (nI t)))) (rg (t * 4 + r)) (rgN (t * 4 + r)) t := rf_an (RM t r lt hr) (fun a ha => an' a t lt ha)
      refine rf_up (an := hh_an (hh_pr (upd pa j (nI t)))) (fun a b c h1 h2 => an_trans h1 h2) F ⟨1, ?_⟩
      show t = hh_pr (upd pa j (nI t)) j
      rw [pr', hh_us]
theorem x_f90 {t c : Nat} (t8 : t < 8) (c8 : c < 8) (tc : t ≠ c) : ∀ (d i : Nat) (rg : Nat → Int32), i + d = 4 → ∃ rg' : Nat → Int32,
    (∀ r, i ≤ r → r < 4 → rg' (c * 4 + r) = rg (t * 4 + r)) ∧ (∀ r, r < i → rg' (c * 4 + r) = rg (c * 4 + r)) ∧ (∀ j, j < c * 4 ∨ c * 4 + 4 ≤ j → rg' j = rg j) ∧
    ∀ (n : Nat) (post : Int32 → SX → Prop), d < n → post (nI c) (hh_X nl lb ld cc cs ct (nI oN) (nI tN) (nI dN) oc lv pa ch rg' hd mk s) → wX_fork_90 post (nI t) (nI c) nl lb ld cc cs ct (nI oN) (nI tN) (nI dN) oc (hs_fr s) (hs_qd s) n (nI i) lv pa ch rg hd (hs_ho s) (hs_fc s) (hs_lc s) (hs_kh s) (hs_kf s) (hs_nx s) (hs_cv s) (hs_fw s) (hs_cf s) mk (hs_qu s) := by
  intro d
  induction d with
  | zero =>
    intro i rg hi
    refine ⟨rg, fun r h1 h2 => by omega, fun _ _ => rfl, fun _ _ => rfl, fun n post hn H => ?_⟩
    obtain ⟨n, rfl⟩ : ∃ n', n = n' + 1 := ⟨n - 1, by omega⟩
    exact br_t (nI_le (a := 4) (by omega) (by omega)) H
  | succ d ih =>
    intro i rg hi
    obtain ⟨rg', a, b, c3, W⟩ := ih (i + 1) (upd rg (c * 4 + i) (rg (t * 4 + i))) (by omega)
    refine ⟨rg', fun r h1 h2 => ?_, fun r h1 => ?_, fun j hj => ?_, fun n post hn H => ?_⟩
    · by_cases e : r = i
      · subst e
        rw [b r (by omega), pk_us]
      · rw [a r (by omega) h2, pk_un (by omega)]
    · rw [b r (by omega), pk_un (by omega)]
    · rw [c3 j hj, pk_un (by omega)]
    · obtain ⟨n, rfl⟩ : ∃ n', n = n' + 1 := ⟨n - 1, by omega⟩
      have it := hh_ix (t := t) (r := i) t8 (by omega)
      have ic := hh_ix (t := c) (r := i) c8 (by omega)
      have e1 : (nI (t * 4 + i)).toNatClampNeg = t * 4 + i := hh_cl (by omega)
      have e2 : (nI (c * 4 + i)).toNatClampNeg = c * 4 + i := hh_cl (by omega)
      refine br_f (nI_ge (b := 4) (by omega) (by omega)) ?_
      rw [it.1, ic.1, e1, e2]
      exact And.intro (vp_in_nI it.2 (by omega)) (And.intro (vp_in_nI ic.2 (by omega)) (nm_e (nm_r (nI_1 i) (W n post (by omega) H))))
theorem y_f60 {t c : Nat} (t8 : t < 8) (c8 : c < 8) (tc : t ≠ c) {bo bf : Nat → Int32} : ∀ (d i : Nat) (rgN : Nat → Nat), i + d = 4 → (∀ j, rgN j < 25) → ∃ rg' : Nat → Nat,
    (∀ r, i ≤ r → r < 4 → rg' (c * 4 + r) = rgN (t * 4 + r)) ∧ (∀ r, r < i → rg' (c * 4 + r) = rgN (c * 4 + r)) ∧ (∀ j, j < c * 4 ∨ c * 4 + 4 ≤ j → rg' j = rgN j) ∧ (∀ j, rg' j < 25) ∧
    ∀ (n : Nat) (post : Int32 → SY → Prop), d < n → post (nI c) ((nI oN), (nI tN), (nI dN), bt, bo, bv, bf, bm, lv, pa, (fun j => nI (rg' j))) → wY_fork_60 post (nI t) (nI c) (nI oN) (nI tN) (nI dN) n (nI i) bt bo bv bf bm lv pa (fun j => nI (rgN j)) := by
  intro d
  induction d with
  | zero =>
    intro i rg hi h25
    refine ⟨rg, fun r h1 h2 => by omega, fun _ _ => rfl, fun _ _ => rfl, h25, fun n post hn H => ?_⟩
    obtain ⟨n, rfl⟩ : ∃ n', n = n' + 1 := ⟨n - 1, by omega⟩
    exact br_t (nI_le (a := 4) (by omega) (by omega)) H
  | succ d ih =>
    intro i rg hi h25
    obtain ⟨rg', a, b, c3, h', W⟩ := ih (i + 1) (hh_up rg (c * 4 + i) (rg (t * 4 + i))) (by omega) (fun j => by
      by_cases e : j = c * 4 + i
      · rw [e, hh_us]; exact h25 _
      · rw [hh_un e]; exact h25 j)
    refine ⟨rg', fun r h1 h2 => ?_, fun r h1 => ?_, fun j hj => ?_, h', fun n post hn H => ?_⟩
    · by_cases e : r = i
      · subst e
        rw [b r (by omega), hh_us]
      · rw [a r (by omega) h2, hh_un (by omega)]
    · rw [b r (by omega), hh_un (by omega)]
    · rw [c3 j hj, hh_un (by omega)]
    · obtain ⟨n, rfl⟩ : ∃ n', n = n' + 1 := ⟨n - 1, by omega⟩
      have it := hh_ix (t := t) (r := i) t8 (by omega)
      have ic := hh_ix (t := c) (r := i) c8 (by omega)
      have e1 : (nI (t * 4 + i)).toNatClampNeg = t * 4 + i := hh_cl (by omega)
      have e2 : (nI (c * 4 + i)).toNatClampNeg = c * 4 + i := hh_cl (by omega)
      refine br_f (nI_ge (b := 4) (by omega) (by omega)) ?_
      rw [it.1, ic.1, e1, e2]
      exact And.intro (vp_in_nI it.2 (by omega)) (And.intro (vp_in_nI ic.2 (by omega)) (nm_r (hh_nI_up rg _ _) (nm_r (nI_1 i) (W n post (by omega) H))))
theorem x_low1 (h8 : tN ≤ 8) {c : Nat} (cN : c < tN) (zc : lv c = 0) {post : Int32 → Prop} (H : post (nI c)) : ∀ d i : Nat, i + d = c → (∀ j, i ≤ j → j < c → lv j ≠ 0) → wX_lowestFreeId_2 post nl lb ld cc cs ct (nI oN) (nI tN) (nI dN) oc (hs_fr s) (hs_qd s) lv pa ch rg hd (hs_ho s) (hs_fc s) (hs_lc s) (hs_kh s) (hs_kf s) (hs_nx s) (hs_cv s) (hs_fw s) (hs_cf s) mk (hs_qu s) (d + 1) (nI i) := by
  intro d
  induction d with
  | zero =>
    intro i hi h
    have e : i = c := by omega
    subst e
    exact br_f (nI_ge (by omega) (by omega)) (And.intro (vp_in_nI (by omega) (by omega)) (br_t (by rw [hh_cl (by omega)]; exact zc) H))
  | succ d ih =>
    intro i hi h
    exact br_f (nI_ge (by omega) (by omega)) (And.intro (vp_in_nI (by omega) (by omega)) (br_f (by rw [hh_cl (by omega)]; exact h i (Nat.le_refl _) (by omega)) (nm_r (nI_1 i) (ih (i + 1) (by omega) (fun j h1 h2 => h j (by omega) h2)))))
theorem x_low0 (h8 : tN ≤ 8) {post : Int32 → Prop} (H : post (-1)) : ∀ d i : Nat, i + d = tN → (∀ j, i ≤ j → j < tN → lv j ≠ 0) → wX_lowestFreeId_2 post nl lb ld cc cs ct (nI oN) (nI tN) (nI dN) oc (hs_fr s) (hs_qd s) lv pa ch rg hd (hs_ho s) (hs_fc s) (hs_lc s) (hs_kh s) (hs_kf s) (hs_nx s) (hs_cv s) (hs_fw s) (hs_cf s) mk (hs_qu s) (d + 1) (nI i) := by
  intro d
  induction d with
  | zero =>
    intro i hi h
    exact br_t (nI_le (by omega) (by omega)) H
  | succ d ih =>
    intro i hi h
    exact br_f (nI_ge (by omega) (by omega)) (And.intro (vp_in_nI (by omega) (by omega)) (br_f (by rw [hh_cl (by omega)]; exact h i (Nat.le_refl _) (by omega)) (nm_r (nI_1 i) (ih (i + 1) (by omega) (fun j h1 h2 => h j (by omega) h2)))))
theorem y_f27 (h8 : tN ≤ 8) {t c : Nat} (cN : c < tN) (zc : lv c = 0) {post : Int32 → SY → Prop} (H : ∃ n60 : Nat, wY_fork_60 post (nI t) (nI c) (nI oN) (nI tN) (nI dN) n60 0 bt (fun o => nI (ow o)) bv (fun j => nI (fd j)) bm (upd lv c 1) (upd pa c (nI t)) (fun j => nI (rgN j))) : ∀ d i : Nat, i + d = c → (∀ j, i ≤ j → j < c → lv j ≠ 0) → wY_fork_27 post (nI t) (nI oN) (nI tN) (nI dN) bt (fun o => nI (ow o)) bv (fun j => nI (fd j)) bm lv pa (fun j => nI (rgN j)) (d + 1) (nI i) := by
  intro d
  induction d with
  | zero =>
    intro i hi h
    have e : i = c := by omega
    subst e
    have vi : vp_in (nI i) 8 := vp_in_nI (by omega) (by omega)
    have ei : (nI i).toNatClampNeg = i := hh_cl (by omega)
    exact br_f (nI_ge (by omega) (by omega)) (And.intro vi (br_t (by rw [ei]; exact zc) (And.intro vi (nm_r (e' := upd lv i 1) (by rw [ei, hh_b1]) (And.intro vi (nm_r (e' := upd pa i (nI t)) (by rw [ei]) H))))))
  | succ d ih =>
    intro i hi h
    exact br_f (nI_ge (by omega) (by omega)) (And.intro (vp_in_nI (by omega) (by omega)) (br_f (by rw [hh_cl (by omega)]; exact h i (Nat.le_refl _) (by omega)) (nm_r (nI_1 i) (ih (i + 1) (by omega) (fun j h1 h2 => h j (by omega) h2)))))
theorem y_f270 (h8 : tN ≤ 8) {t : Nat} {post : Int32 → SY → Prop} (H : post (-6) ((nI oN), (nI tN), (nI dN), bt, (fun o => nI (ow o)), bv, (fun j => nI (fd j)), bm, lv, pa, (fun j => nI (rgN j)))) : ∀ d i : Nat, i + d = tN → (∀ j, i ≤ j → j < tN → lv j ≠ 0) → wY_fork_27 post (nI t) (nI oN) (nI tN) (nI dN) bt (fun o => nI (ow o)) bv (fun j => nI (fd j)) bm lv pa (fun j => nI (rgN j)) (d + 1) (nI i) := by
  intro d
  induction d with
  | zero =>
    intro i hi h
    exact br_t (nI_le (by omega) (by omega)) H
  | succ d ih =>
    intro i hi h
    exact br_f (nI_ge (by omega) (by omega)) (And.intro (vp_in_nI (by omega) (by omega)) (br_f (by rw [hh_cl (by omega)]; exact h i (Nat.le_refl _) (by omega)) (nm_r (nI_1 i) (ih (i + 1) (by omega) (fun j h1 h2 => h j (by omega) h2)))))
theorem m_fork (R : hh_R0 oN tN dN oc lv pa ch rg hd mk s g dp bt ow bv fd rgN) (v1 : Int32) : hh_Out (fun post => wpX_fork post (hh_X nl lb ld cc cs ct (nI oN) (nI tN) (nI dN) oc lv pa ch rg hd mk s) v1) (fun post => wpY_fork post ((nI oN), (nI tN), (nI dN), bt, (fun o => nI (ow o)), bv, (fun j => nI (fd j)), bm, lv, pa, (fun j => nI (rgN j))) v1) := by
  have h8 := R.1.2.1
  by_cases hv : hh_lv lv tN v1
  · obtain ⟨t, ht, rfl, lt⟩ := hv
    have T9 := R.1.2.2.2.2.2.2.2.2.1 t lt
    have d3 := R.1.2.2.2.1
    have et : (nI t).toNatClampNeg = t := hh_cl (by omega)
    have vt9 : vp_in (nI t) 9 := vp_in_nI (by omega) (by omega)
    by_cases dt : dp t < dN
    · by_cases fr : ∃ c, c < tN ∧ lv c = 0
      · obtain ⟨c', a1, a2⟩ := fr
        obtain ⟨c, hc, zc, least⟩ := hh_least (fun c => lv c = 0) c' a2
        have cN : c < tN := by omega
        have tc : t ≠ c := fun z => lt (z ▸ zc)
        have ec : (nI c).toNatClampNeg = c := hh_cl (by omega)
        have vc8 : vp_in (nI c) 8 := vp_in_nI (by omega) (by omega)
        have vt8 : vp_in (nI t) 8 := vp_in_nI (by omega) (by omega)
        obtain ⟨rg', a, _, b, W⟩ := x_f90 (s := (hs_fr s, hs_qd s, upd (hs_ho s) c 0, upd (hs_fc s) c (-1), upd (hs_lc s) c (-1), hs_kh s, hs_kf s, hs_nx s, hs_cv s, hs_fw s, hs_cf s, hs_qu s)) (nl := nl) (lb := lb) (ld := ld) (cc := cc) (cs := cs) (ct := ct) (oN := oN) (tN := tN) (dN := dN) (oc := oc) (lv := upd lv c 1) (pa := upd pa c (nI t)) (ch := upd (upd ch c 0) t (upd ch c 0 t + 1)) (rg := rg) (hd := upd hd c (hd t + 1)) (mk := mk) (t := t) (c := c) (by omega) (by omega) tc 4 0 (by omega)
        obtain ⟨rn', a', _, b', c', W'⟩ := y_f60 (oN := oN) (tN := tN) (dN := dN) (lv := upd lv c 1) (pa := upd pa c (nI t)) (bt := bt) (bv := bv) (bm := bm) (bo := (fun o => nI (ow o))) (bf := (fun j => nI (fd j))) (t := t) (c := c) (by omega) (by omega) tc 4 0 rgN (by omega) R.2.2.2.2.2.2.2.2.2.1
        refine ⟨nI c, (hh_X nl lb ld cc cs ct (nI oN) (nI tN) (nI dN) oc (upd lv c 1) (upd pa c (nI t)) (upd (upd ch c 0) t (upd ch c 0 t + 1)) rg' (upd hd c (hd t + 1)) mk (hs_fr s, hs_qd s, upd (hs_ho s) c 0, upd (hs_fc s) c (-1), upd (hs_lc s) c (-1), hs_kh s, hs_kf s, hs_nx s, hs_cv s, hs_fw s, hs_cf s, hs_qu s)), ((nI oN), (nI tN), (nI dN), bt, (fun o => nI (ow o)), bv, (fun j => nI (fd j)), bm, upd lv c 1, upd pa c (nI t), (fun j => nI (rn' j))),
          rel_mk (r_fork R lt dt cN zc (fun r h => a r (by omega) h) b (fun r h => a' r (by omega) h) b' c'), fun post H => ?_, fun post H => ?_⟩
        · unfold wpX_fork
          refine x_live1 (s := s) h8 ht lt ?_
          refine br_f (by decide) (And.intro vt9 (br_t ?_ ?_))
          · rw [et, T9.2.1]; exact nI_lt dt (by omega)
          · refine ⟨c + 1, x_low1 (s := s) h8 cN zc ?_ c 0 (by omega) (fun j _ h2 => least j h2)⟩
            refine br_t (nI_pos' (by omega)) ?_
            rw [ec, et]
            refine And.intro vc8 (nm_r (e' := upd lv c 1) (by rw [hh_b1]) (And.intro vc8 (nm_e (And.intro vc8 (nm_e (And.intro vt8 (And.intro vt8 (nm_e ?_))))))))
            refine x_clr (s := s) (h := c) (by omega) ?_
            exact And.intro vt9 (And.intro (vp_in_nI (by omega) (by omega)) (nm_e ⟨5, W 5 post (by omega) H⟩))
        · unfold wpY_fork
          refine y_live1 h8 ht lt ?_
          refine br_f (by decide) ?_
          refine y_dep R.1 lt ?_
          refine br_f (fun z => ?_) ⟨c + 1, y_f27 h8 cN zc ⟨5, W' 5 post (by omega) H⟩ c 0 (by omega) (fun j _ h2 => least j h2)⟩
          have := hh_ni (by omega) (by omega) z
          omega
      · have allt : ∀ j, j < tN → lv j ≠ 0 := fun j h z => fr ⟨j, h, z⟩
        refine ⟨-6, (hh_X nl lb ld cc cs ct (nI oN) (nI tN) (nI dN) oc lv pa ch rg hd mk s), ((nI oN), (nI tN), (nI dN), bt, (fun o => nI (ow o)), bv, (fun j => nI (fd j)), bm, lv, pa, (fun j => nI (rgN j))), rel_mk R, fun post H => ?_, fun post H => ?_⟩
        · unfold wpX_fork
          refine x_live1 (s := s) h8 ht lt ?_
          refine br_f (by decide) (And.intro vt9 (br_t ?_ ?_))
          · rw [et, T9.2.1]; exact nI_lt dt (by omega)
          · refine ⟨tN + 1, x_low0 (s := s) h8 ?_ tN 0 (by omega) (fun j _ h2 => allt j h2)⟩
            exact br_f hh_m1' H
        · unfold wpY_fork
          refine y_live1 h8 ht lt ?_
          refine br_f (by decide) ?_
          refine y_dep R.1 lt ?_
          refine br_f (fun z => ?_) ⟨tN + 1, y_f270 h8 H tN 0 (by omega) (fun j _ h2 => allt j h2)⟩
          have := hh_ni (by omega) (by omega) z
          omega
    · have e : dp t = dN := by have := T9.2.2; omega
      refine ⟨-7, (hh_X nl lb ld cc cs ct (nI oN) (nI tN) (nI dN) oc lv pa ch rg hd mk s), ((nI oN), (nI tN), (nI dN), bt, (fun o => nI (ow o)), bv, (fun j => nI (fd j)), bm, lv, pa, (fun j => nI (rgN j))), rel_mk R, fun post H => ?_, fun post H => ?_⟩
      · unfold wpX_fork
        refine x_live1 (s := s) h8 ht lt ?_
        refine br_f (by decide) (And.intro vt9 (br_f ?_ H))
        rw [et, T9.2.1]; exact nI_nlt (by omega) (by omega)
      · unfold wpY_fork
        refine y_live1 h8 ht lt ?_
        refine br_f (by decide) ?_
        refine y_dep R.1 lt ?_
        exact br_t (congrArg nI e) H
  · refine ⟨-1, (hh_X nl lb ld cc cs ct (nI oN) (nI tN) (nI dN) oc lv pa ch rg hd mk s), ((nI oN), (nI tN), (nI dN), bt, (fun o => nI (ow o)), bv, (fun j => nI (fd j)), bm, lv, pa, (fun j => nI (rgN j))), rel_mk R, fun post H => ?_, fun post H => ?_⟩
    · unfold wpX_fork
      refine x_live0 (s := s) h8 hv ?_
      exact br_t rfl H
    · unfold wpY_fork
      refine y_live0 h8 hv ?_
      exact br_t rfl H
end
end
section
/-! join -/
def hh_mv (c p h : Nat) : Nat := if h = c then p else h
theorem mv_t (c p : Nat) : hh_mv c p c = p := if_pos rfl
theorem mv_f {c p h : Nat} (e : h ≠ c) : hh_mv c p h = h := if_neg e
section
variable {nl lb ld cc cs ct oc : Int32} {oN tN dN : Nat} {lv pa ch rg hd mk : Nat → Int32} {s : HST}
variable {g : HG} {dp ow fd rgN : Nat → Nat} {bt bv bm : Nat → Int32}
theorem r_join (R : hh_R0 oN tN dN oc lv pa ch rg hd mk s g dp bt ow bv fd rgN) {c p : Nat} (lc' : lv c ≠ 0) (c0 : c ≠ 0) (nb : ¬ hh_bz lv pa c) (lp : lv p ≠ 0) (ep : pa c = nI p) (dpc : dp c = dp p + 1)
    {fc lc kh nx : Nat → Int32} (CS' : hh_CS fc lc kh (hs_kf s) nx (hs_fr s) (gg_us g) (fun x => hh_mv c p (gg_hp g x)))
    {ow' : Nat → Nat} (w1 : ∀ o, bt o ≠ 0 → ow' o = hh_mv c p (ow o)) {rg' : Nat → Int32} {rgN' : Nat → Nat} (n3 : ∀ j, rgN' j < 25)
    (gR : ∀ j r, lv j ≠ 0 → j ≠ c → r < 4 → (rg' (j * 4 + r) = rg (j * 4 + r) ∧ rgN' (j * 4 + r) = rgN (j * 4 + r)) ∨ (j = p ∧ rg' (j * 4 + r) = rg (c * 4 + r) ∧ rgN' (j * 4 + r) = rgN (c * 4 + r))) :
    hh_R0 oN tN dN oc (upd lv c 0) pa (upd ch p (ch p - 1)) rg' hd mk (hs_fr s, hs_qd s, upd (upd (hs_ho s) p (hs_ho s p + hs_ho s c)) c 0, fc, lc, kh, hs_kf s, nx, hs_cv s, hs_fw s, hs_cf s, hs_qu s) (gg_us g, fun x => hh_mv c p (gg_hp g x), gg_ob g, gg_cl g) dp bt ow' bv fd rgN' := by
  have G := r_go R
  have c8 := r_t8 R lc'
  have p8 := r_t8 R lp
  have Wo := fun o (h : bt o ≠ 0) => (r_ow R h).1
  have LF := tk_leaf R.1 nb
  obtain ⟨T, K, o8, o24, tb, eoc, I, RM, f25, r25, mz⟩ := R
  have TT := tk_tr T
  obtain ⟨T1, T2, T3, T4, T5, T6, T7, T8, T9, T10⟩ := T
  obtain ⟨CS, CM, FM, VM, HO⟩ := I
  have pc : p ≠ c := fun z => by rw [z] at dpc; omega
  have lv1 : ∀ j, upd lv c 0 j ≠ 0 ↔ lv j ≠ 0 ∧ j ≠ c := fun j => by
    by_cases e : j = c
    · subst e; rw [pk_us]; exact ⟨fun z => absurd rfl z, fun z => absurd rfl z.2⟩
    · rw [pk_un e]; exact ⟨fun z => ⟨z, e⟩, fun z => z.1⟩
  have prc : hh_pr pa c = p := by
    show (pa c).toNatClampNeg = p
    rw [ep]; exact hh_cl (by omega)
  have anm : ∀ a b, lv b ≠ 0 → hh_an (hh_pr pa) a b → hh_an (hh_pr pa) (hh_mv c p a) (hh_mv c p b) := by
    intro a b hb h
    by_cases e : b = c
    · subst e
      rw [mv_t]
      by_cases e2 : a = b
      · subst e2; rw [mv_t]; exact an_refl _ _
      · rw [mv_f e2]
        obtain ⟨k, ek⟩ := h
        cases k with
        | zero => exact absurd ek e2
        | succ k =>
          refine ⟨k, ?_⟩
          rw [← prc]; exact ek
    · rw [mv_f e]
      by_cases e2 : a = c
      · subst e2
        exact absurd (leaf_an TT.1 TT.2.1 LF b hb h) e
      · rw [mv_f e2]; exact h
  have ndm : ∀ h, lv h ≠ 0 → upd lv c 0 (hh_mv c p h) ≠ 0 := by
    intro h hh
    by_cases e : h = c
    · rw [e, mv_t]; exact (lv1 p).mpr ⟨lp, pc⟩
    · rw [mv_f e]; exact (lv1 h).mpr ⟨hh, e⟩
  have rfm : ∀ x o h, lv h ≠ 0 → hh_Rf g (hh_an (hh_pr pa)) x o h → hh_Rf (gg_us g, fun x => hh_mv c p (gg_hp g x), gg_ob g, gg_cl g) (hh_an (hh_pr pa)) x o (hh_mv c p h) := by
    intro x o h hh F
    rcases F with F | ⟨y, e1, u, e2, a⟩
    · exact Or.inl F
    · exact Or.inr ⟨y, e1, u, e2, anm _ _ hh a⟩
  refine ⟨⟨T1, T2, T3, T4, (lv1 0).mpr ⟨T5, fun z => c0 z.symm⟩, T6, T7, T8, fun j hj => T9 j ((lv1 j).mp hj).1, ?_⟩, ?_, o8, o24, tb, eoc, ⟨CS', ?_, ?_, VM, ?_⟩, ?_, f25, n3, mz⟩
  · intro j hj j0
    have hj' := (lv1 j).mp hj
    obtain ⟨q, hq, eq, hl, e⟩ := T10 j hj'.1 j0
    refine ⟨q, hq, eq, (lv1 q).mpr ⟨hl, fun z => ?_⟩, e⟩
    subst z
    exact nb ⟨j, (TT.2.2 j hj'.1).1, hj'.1, eq⟩
  · intro j hj
    have hj' := (lv1 j).mp hj
    by_cases e : j = p
    · subst e
      rw [pk_us, K j hj'.1, cn_add1 (q := fun i => lv i ≠ 0 ∧ pa i = nI j) (p := fun i => upd lv c 0 i ≠ 0 ∧ pa i = nI j) (k := c) (fun z => ((lv1 c).mp z.1).2 rfl) ⟨lc', ep⟩ 8 c8 (fun i _ hi => by rw [pk_un hi])]
      exact nI_pred _
    · rw [pk_un e, K j hj'.1]
      refine congrArg nI (cn_congr 8 (fun i _ => ?_))
      by_cases hi : i = c
      · subst hi
        have j8 := (TT.2.2 j hj'.1).1
        exact ⟨fun z => by
          have z2 := z.2
          rw [ep] at z2
          exact absurd (hh_ni (by omega) (by omega) z2).symm e, fun z => absurd rfl ((lv1 i).mp z.1).2⟩
      · rw [pk_un hi]
  · refine cm_map (us' := gg_us g) (hp' := fun x => hh_mv c p (gg_hp g x)) CM ?_ ?_ ?_
    · intro x u
      have a := cm_us CM u
      refine ⟨u, a.2.1, ndm _ a.2.2, fun n hn => ?_⟩
      have hn : n ≤ 3 - dp (ow (gg_ob g x)) := hn
      show n ≤ 3 - dp (ow' (gg_ob g x))
      rw [w1 _ a.2.1]
      by_cases e : ow (gg_ob g x) = c
      · rw [e, mv_t]; rw [e] at hn; omega
      · rw [mv_f e]; exact hn
    · intro x y u u' _ a
      exact ⟨u', anm _ _ (cm_us CM u).2.2 a⟩
    · intro o ho
      have a := cm_th CM ho
      refine ⟨ho, a.2.2.1, ?_⟩
      show hh_mv c p (gg_hp g (gg_cl g o)) = ow' o
      rw [a.2.2.2.2, w1 o ho]
  · intro o f ho hf
    have F := FM o f ho hf
    have e2 : (2 * o + f) / 2 = o := by omega
    have F : hh_Rf g (hh_an (hh_pr pa)) (hs_cf s (gg_cl g o * 2 + f)) (fd (2 * o + f)) (ow ((2 * o + f) / 2)) := F
    rw [e2] at F
    have F2 := rfm _ _ _ (Wo o ho) F
    rw [← w1 o ho] at F2
    show hh_Rf (gg_us g, fun x => hh_mv c p (gg_hp g x), gg_ob g, gg_cl g) (hh_an (hh_pr pa)) (hs_cf s (gg_cl g o * 2 + f)) (fd (2 * o + f)) (ow' ((2 * o + f) / 2))
    rw [e2]
    exact F2
  · intro j hj
    show upd (upd (hs_ho s) p (hs_ho s p + hs_ho s c)) c 0 j = _
    by_cases e : j = c
    · subst e
      rw [pk_us, cn_z 25 (fun i _ hi => ?_)]
      · rfl
      · have h2 := hi.2
        rw [w1 i hi.1] at h2
        by_cases z : ow i = j
        · rw [z, mv_t] at h2; exact pc h2
        · rw [mv_f z] at h2; exact z h2
    · rw [pk_un e]
      by_cases e2 : j = p
      · subst e2
        rw [pk_us, HO j hj, HO c (by omega), nI_add]
        refine congrArg nI (cn_sum 25 (fun i _ => ?_) (fun i _ z => ?_)).symm
        · constructor
          · intro z
            have h2 := z.2
            rw [w1 i z.1] at h2
            by_cases y : ow i = c
            · exact Or.inr ⟨z.1, y⟩
            · rw [mv_f y] at h2; exact Or.inl ⟨z.1, h2⟩
          · intro z
            rcases z with z | z
            · refine ⟨z.1, ?_⟩
              rw [w1 i z.1, z.2]; exact mv_f e
            · refine ⟨z.1, ?_⟩
              rw [w1 i z.1, z.2]; exact mv_t _ _
        · exact e (z.1.2.symm.trans z.2.2)
      · rw [pk_un e2, HO j hj]
        refine congrArg nI (cn_congr 25 (fun i _ => ?_))
        constructor
        · intro z
          refine ⟨z.1, ?_⟩
          rw [w1 i z.1, z.2]; exact mv_f e
        · intro z
          have h2 := z.2
          rw [w1 i z.1] at h2
          by_cases y : ow i = c
          · rw [y, mv_t] at h2; exact absurd h2.symm e2
          · rw [mv_f y] at h2; exact ⟨z.1, h2⟩
  · intro j r hj hr
    have hj' := (lv1 j).mp hj
    rcases gR j r hj'.1 hj'.2 hr with ⟨a, b⟩ | ⟨a, b, d⟩
    · rw [a, b]
      have := rfm _ _ _ hj'.1 (RM j r hj'.1 hr)
      rw [mv_f hj'.2] at this
      exact this
    · rw [b, d]
      have := rfm _ _ _ lc' (RM c r lc' hr)
      rw [mv_t] at this
      rw [a]
      exact this
theorem y_j79 {c p : Nat} (c8 : c < 8) (p8 : p < 8) (hw : ∀ o, bt o ≠ 0 → ow o < 8) {bf br : Nat → Int32} : ∀ (d i : Nat) (owi : Nat → Nat), i + d = 25 → (∀ o, i ≤ o → owi o = ow o) → ∃ ow' : Nat → Nat,
    (∀ o, o < i → ow' o = owi o) ∧ (∀ o, i ≤ o → o < 25 → bt o ≠ 0 → ow' o = hh_mv c p (ow o)) ∧
    ∀ (n : Nat) (post : Int32 → SY → Prop), d < n → post (nI (hh_cn (fun o => hh_th bt o ∧ ow o = c) 25)) ((nI oN), (nI tN), (nI dN), bt, (fun o => nI (ow' o)), bv, bf, bm, upd lv c 0, pa, br) →
      wY_join_79 post (nI c) (nI p) (nI oN) (nI tN) (nI dN) n (nI (hh_cn (fun o => hh_th bt o ∧ ow o = c) i)) (nI i) bt (fun o => nI (owi o)) bv bf bm lv pa br := by
  intro d
  induction d with
  | zero =>
    intro i owi hi h
    have e : i = 25 := by omega
    subst e
    refine ⟨owi, fun _ _ => rfl, fun o h1 h2 => by omega, fun n post hn H => ?_⟩
    obtain ⟨n, rfl⟩ : ∃ n', n = n' + 1 := ⟨n - 1, by omega⟩
    exact br_t (nI_le (a := 25) (by omega) (by omega)) (And.intro (vp_in_nI c8 (by omega)) (nm_r (e' := upd lv c 0) (by rw [hh_cl (by omega), hh_b0]) H))
  | succ d ih =>
    intro i owi hi h
    have ei : (nI i).toNatClampNeg = i := hh_cl (by omega)
    have vi : vp_in (nI i) 25 := vp_in_nI (by omega) (by omega)
    have hoi := h i (Nat.le_refl _)
    by_cases z : bt i ≠ 0 ∧ ow i = c
    · obtain ⟨ow', a, b, W⟩ := ih (i + 1) (hh_up owi i p) (by omega) (fun o ho => by rw [hh_un (by omega)]; exact h o (by omega))
      refine ⟨ow', fun o ho => ?_, fun o h1 h2 h3 => ?_, fun n post hn H => ?_⟩
      · rw [a o (by omega), hh_un (by omega)]
      · by_cases e : o = i
        · subst e
          rw [a o (by omega), hh_us, z.2, mv_t]
        · exact b o (by omega) h2 h3
      · obtain ⟨n, rfl⟩ : ∃ n', n = n' + 1 := ⟨n - 1, by omega⟩
        have W' := W n post (by omega) H
        rw [cn_t z] at W'
        refine br_f (nI_ge (b := 25) (by omega) (by omega)) (And.intro vi ?_)
        rw [ei]
        exact br_f z.1 (And.intro vi (br_t (congrArg nI (hoi.trans z.2)) (And.intro vi (nm_r (hh_nI_up owi i p) (nm_r (nI_1 _) (nm_r (nI_1 i) W'))))))
    · obtain ⟨ow', a, b, W⟩ := ih (i + 1) owi (by omega) (fun o ho => h o (by omega))
      refine ⟨ow', fun o ho => a o (by omega), fun o h1 h2 h3 => ?_, fun n post hn H => ?_⟩
      · by_cases e : o = i
        · subst e
          rw [a o (by omega), hoi, mv_f (fun y => z ⟨h3, y⟩)]
        · exact b o (by omega) h2 h3
      · obtain ⟨n, rfl⟩ : ∃ n', n = n' + 1 := ⟨n - 1, by omega⟩
        have W' := W n post (by omega) H
        rw [cn_f z] at W'
        refine br_f (nI_ge (b := 25) (by omega) (by omega)) (And.intro vi ?_)
        rw [ei]
        by_cases y : bt i = 0
        · exact br_t y (nm_r (nI_1 i) W')
        · have w8 := hw i y
          exact br_f y (And.intro vi (br_f (fun q => z ⟨y, by
            have q' : nI (owi i) = nI c := q
            rw [hoi] at q'
            exact hh_ni (by omega) (by omega) q'⟩) (nm_r (nI_1 i) W')))
theorem x_j77 {us : Nat → Prop} {hp : Nat → Nat} (S : hh_CS (hs_fc s) (hs_lc s) (hs_kh s) (hs_kf s) (hs_nx s) (hs_fr s) us hp) {c p : Nat} (c8 : c < 8) (p8 : p < 8) (pc : p ≠ c) :
    ∃ fc lc kh nx : Nat → Int32, hh_CS fc lc kh (hs_kf s) nx (hs_fr s) us (fun x => hh_mv c p (hp x)) ∧
      ∀ post : Int32 → SX → Prop, post (hs_ho s c) (hh_X nl lb ld cc cs ct (nI oN) (nI tN) (nI dN) oc (upd lv c 0) pa (upd ch p (ch p - 1)) rg hd mk (hs_fr s, hs_qd s, upd (upd (hs_ho s) p (hs_ho s p + hs_ho s c)) c 0, fc, lc, kh, hs_kf s, nx, hs_cv s, hs_fw s, hs_cf s, hs_qu s)) → wX_join_77 post (nI c) (nI p) nl lb ld cc cs ct (nI oN) (nI tN) (nI dN) oc (hs_fr s) (hs_qd s) lv pa ch rg hd (hs_ho s) (hs_fc s) (hs_lc s) (hs_kh s) (hs_kf s) (hs_nx s) (hs_cv s) (hs_fw s) (hs_cf s) mk (hs_qu s) := by
  obtain ⟨fc, lc, kh, nx, CS', W⟩ := x_splice (s := s) (nl := nl) (lb := lb) (ld := ld) (cc := cc) (cs := cs) (ct := ct) (oN := oN) (tN := tN) (dN := dN) (oc := oc) (lv := lv) (pa := pa) (ch := ch) (rg := rg) (hd := hd) (mk := mk) S (a := c) (b := p) (hp' := fun x => hh_mv c p (hp x)) (by omega) (by omega) (fun z => pc z.symm) (fun x _ e => by show hh_mv c p (hp x) = p; rw [e, mv_t]) (fun x _ e => mv_f e)
  refine ⟨fc, lc, kh, nx, CS', fun post H => ?_⟩
  have ec : (nI c).toNatClampNeg = c := hh_cl (by omega)
  have ep : (nI p).toNatClampNeg = p := hh_cl (by omega)
  have vp8 : vp_in (nI p) 8 := vp_in_nI (by omega) (by omega)
  refine And.intro (vp_in_nI (by omega) (by omega)) (nm_r (e' := hs_ho s c) (by rw [ec]) ?_)
  refine W _ ?_
  exact And.intro (vp_in_nI (by omega) (by omega)) (nm_r (e' := upd lv c 0) (by rw [ec, hh_b0]) (And.intro vp8 (And.intro vp8 (nm_r (e' := upd ch p (ch p - 1)) (by rw [ep]) H))))
theorem m_join (R : hh_R0 oN tN dN oc lv pa ch rg hd mk s g dp bt ow bv fd rgN) (v1 v2 : Int32) : hh_Out (fun post => wpX_join post (hh_X nl lb ld cc cs ct (nI oN) (nI tN) (nI dN) oc lv pa ch rg hd mk s) v1 v2) (fun post => wpY_join post ((nI oN), (nI tN), (nI dN), bt, (fun o => nI (ow o)), bv, (fun j => nI (fd j)), bm, lv, pa, (fun j => nI (rgN j))) v1 v2) := by
  have h8 := R.1.2.1
  have hl : ∀ j, lv j ≠ 0 → j < tN := fun j h => (R.1.2.2.2.2.2.2.2.2.1 j h).1
  by_cases hv : hh_lv lv tN v1
  · obtain ⟨c, hc, rfl, lc'⟩ := hv
    have ec : (nI c).toNatClampNeg = c := hh_cl (by omega)
    have vc8 : vp_in (nI c) 8 := vp_in_nI (by omega) (by omega)
    by_cases c0 : c = 0
    · subst c0
      refine ⟨-8, (hh_X nl lb ld cc cs ct (nI oN) (nI tN) (nI dN) oc lv pa ch rg hd mk s), ((nI oN), (nI tN), (nI dN), bt, (fun o => nI (ow o)), bv, (fun j => nI (fd j)), bm, lv, pa, (fun j => nI (rgN j))), rel_mk R, fun post H => ?_, fun post H => ?_⟩
      · unfold wpX_join
        refine x_live1 (s := s) h8 hc lc' ?_
        exact br_f (by decide) (br_t rfl H)
      · unfold wpY_join
        refine y_live1 h8 hc lc' ?_
        exact br_f (by decide) (br_t rfl H)
    · have cne : ¬ nI c = 0 := nI_ne0 (by omega) (by omega)
      by_cases nb : hh_bz lv pa c
      · refine ⟨-2, (hh_X nl lb ld cc cs ct (nI oN) (nI tN) (nI dN) oc lv pa ch rg hd mk s), ((nI oN), (nI tN), (nI dN), bt, (fun o => nI (ow o)), bv, (fun j => nI (fd j)), bm, lv, pa, (fun j => nI (rgN j))), rel_mk R, fun post H => ?_, fun post H => ?_⟩
        · unfold wpX_join
          refine x_live1 (s := s) h8 hc lc' ?_
          exact br_f (by decide) (br_f cne (And.intro vc8 (br_f (by rw [ec]; exact (kc_bz R.2.1 lc').1 nb) H)))
        · unfold wpY_join
          refine y_live1 h8 hc lc' ?_
          refine br_f (by decide) (br_f cne ?_)
          refine y_bz h8 hl (fun _ => ?_) (fun z => absurd nb z)
          exact br_f (by decide) H
      · have hch : ch (nI c).toNatClampNeg ≤ 0 := by rw [ec]; exact (kc_bz R.2.1 lc').2 nb
        have YB : ∀ (post : Int32 → SY → Prop), (((v2 < (-1) → (post (-3) ((nI oN), (nI tN), (nI dN), bt, (fun o => nI (ow o)), bv, (fun j => nI (fd j)), bm, lv, pa, (fun j => nI (rgN j))))) ∧ (¬ v2 < (-1) → (((v2 < 4 → (vp_in (nI c) 8 ∧ (∀ x3_31 : Int32, x3_31 = pa (nI c).toNatClampNeg → (((v2 = (-1) → (∃ n79 : Nat, wY_join_79 post (nI c) x3_31 (nI oN) (nI tN) (nI dN) n79 0 1 bt (fun o => nI (ow o)) bv (fun j => nI (fd j)) bm lv pa (fun j => nI (rgN j)))) ∧ (¬ v2 = (-1) → (vp_in ((nI c * 4) + v2) 32 ∧ (vp_in ((x3_31 * 4) + v2) 32 ∧ ∀ a_regs_48 : Nat → Int32, a_regs_48 = upd (fun j => nI (rgN j)) ((x3_31 * 4) + v2).toNatClampNeg (nI (rgN ((nI c * 4) + v2).toNatClampNeg)) → (∃ n79 : Nat, wY_join_79 post (nI c) x3_31 (nI oN) (nI tN) (nI dN) n79 0 1 bt (fun o => nI (ow o)) bv (fun j => nI (fd j)) bm lv pa a_regs_48))))))))) ∧ (¬ v2 < 4 → (post (-3) ((nI oN), (nI tN), (nI dN), bt, (fun o => nI (ow o)), bv, (fun j => nI (fd j)), bm, lv, pa, (fun j => nI (rgN j)))))))))) → wpY_join post ((nI oN), (nI tN), (nI dN), bt, (fun o => nI (ow o)), bv, (fun j => nI (fd j)), bm, lv, pa, (fun j => nI (rgN j))) (nI c) v2 := by
          intro post H
          unfold wpY_join
          refine y_live1 h8 hc lc' ?_
          refine br_f (by decide) (br_f cne ?_)
          refine y_bz h8 hl (fun z => absurd z nb) (fun _ => ?_)
          exact br_t rfl H
        obtain ⟨p, p8, ep, lp, dpc⟩ := R.1.2.2.2.2.2.2.2.2.2 c lc' c0
        have pc : p ≠ c := fun z => by rw [z] at dpc; omega
        have epc : pa (nI c).toNatClampNeg = nI p := by rw [ec]; exact ep
        have I := R.2.2.2.2.2.2.1
        have eh : hs_ho s c = nI (hh_cn (fun o => hh_th bt o ∧ ow o = c) 25) := I.2.2.2.2 c (by omega)
        have th0 : ¬ (hh_th bt 0 ∧ ow 0 = c) := fun z => cm_0 I.2.1 z.1
        have cn1 : hh_cn (fun o => hh_th bt o ∧ ow o = c) 1 = 0 := by rw [cn_f th0, cn_0]
        have th1 : ∀ o, bt o ≠ 0 → 1 ≤ o ∧ o < 25 := fun o h => ⟨(cm_th (o := o) I.2.1 h).1, (cm_th (o := o) I.2.1 h).2.1⟩
        by_cases em : v2 = -1
        · subst em
          obtain ⟨fc, lc, kh, nx, CS', W⟩ := x_j77 (s := s) (nl := nl) (lb := lb) (ld := ld) (cc := cc) (cs := cs) (ct := ct) (oN := oN) (tN := tN) (dN := dN) (oc := oc) (lv := lv) (pa := pa) (ch := ch) (rg := rg) (hd := hd) (mk := mk) I.1 (c := c) (p := p) (by omega) p8 pc
          obtain ⟨ow', _, b, WY⟩ := y_j79 (oN := oN) (tN := tN) (dN := dN) (lv := lv) (pa := pa) (bt := bt) (bv := bv) (bm := bm) (bf := (fun j => nI (fd j))) (br := (fun j => nI (rgN j))) (c := c) (p := p) (by omega) p8 (fun o h => (r_ow R h).2) 24 1 ow (by omega) (fun _ _ => rfl)
          refine ⟨hs_ho s c, (hh_X nl lb ld cc cs ct (nI oN) (nI tN) (nI dN) oc (upd lv c 0) pa (upd ch p (ch p - 1)) rg hd mk (hs_fr s, hs_qd s, upd (upd (hs_ho s) p (hs_ho s p + hs_ho s c)) c 0, fc, lc, kh, hs_kf s, nx, hs_cv s, hs_fw s, hs_cf s, hs_qu s)), ((nI oN), (nI tN), (nI dN), bt, (fun o => nI (ow' o)), bv, (fun j => nI (fd j)), bm, upd lv c 0, pa, (fun j => nI (rgN j))),
            rel_mk (r_join R lc' c0 nb lp ep dpc CS' (fun o h => b o (th1 o h).1 (th1 o h).2 h) R.2.2.2.2.2.2.2.2.2.1 (fun j r _ _ _ => Or.inl ⟨rfl, rfl⟩)), fun post H => ?_, fun post H => ?_⟩
          · unfold wpX_join
            refine x_live1 (s := s) h8 hc lc' ?_
            refine br_f (by decide) (br_f cne (And.intro vc8 (br_t hch (br_t rfl ?_))))
            exact And.intro vc8 (nm_r epc (br_t rfl (W post H)))
          · refine YB post (br_f (by decide) (br_t (by decide) (And.intro vc8 (nm_r epc (br_t rfl ⟨25, ?_⟩)))))
            have := WY 25 post (by omega) (by rw [← eh]; exact H)
            rw [cn1] at this
            exact this
        · by_cases g2 : hh_gd v2
          · obtain ⟨r, hr, rfl⟩ := g2
            have ic := hh_ix (t := c) (r := r) (by omega) hr
            have ip := hh_ix (t := p) (r := r) p8 hr
            have e1 : (nI (c * 4 + r)).toNatClampNeg = c * 4 + r := hh_cl (by omega)
            have e2 : (nI (p * 4 + r)).toNatClampNeg = p * 4 + r := hh_cl (by omega)
            obtain ⟨fc, lc, kh, nx, CS', W⟩ := x_j77 (s := s) (nl := nl) (lb := lb) (ld := ld) (cc := cc) (cs := cs) (ct := ct) (oN := oN) (tN := tN) (dN := dN) (oc := oc) (lv := lv) (pa := pa) (ch := ch) (rg := upd rg (p * 4 + r) (rg (c * 4 + r))) (hd := hd) (mk := mk) I.1 (c := c) (p := p) (by omega) p8 pc
            obtain ⟨ow', _, b, WY⟩ := y_j79 (oN := oN) (tN := tN) (dN := dN) (lv := lv) (pa := pa) (bt := bt) (bv := bv) (bm := bm) (bf := (fun j => nI (fd j))) (br := (fun j => nI (hh_up rgN (p * 4 + r) (rgN (c * 4 + r)) j))) (c := c) (p := p) (by omega) p8 (fun o h => (r_ow R h).2) 24 1 ow (by omega) (fun _ _ => rfl)
            refine ⟨hs_ho s c, (hh_X nl lb ld cc cs ct (nI oN) (nI tN) (nI dN) oc (upd lv c 0) pa (upd ch p (ch p - 1)) (upd rg (p * 4 + r) (rg (c * 4 + r))) hd mk (hs_fr s, hs_qd s, upd (upd (hs_ho s) p (hs_ho s p + hs_ho s c)) c 0, fc, lc, kh, hs_kf s, nx, hs_cv s, hs_fw s, hs_cf s, hs_qu s)), ((nI oN), (nI tN), (nI dN), bt, (fun o => nI (ow' o)), bv, (fun j => nI (fd j)), bm, upd lv c 0, pa, (fun j => nI (hh_up rgN (p * 4 + r) (rgN (c * 4 + r)) j))),
              rel_mk (r_join R lc' c0 nb lp ep dpc CS' (fun o h => b o (th1 o h).1 (th1 o h).2 h) (fun j => ?_) (fun j r' hj hjc hr' => ?_)), fun post H => ?_, fun post H => ?_⟩
            · by_cases e : j = p * 4 + r
              · rw [e, hh_us]; exact R.2.2.2.2.2.2.2.2.2.1 _
              · rw [hh_un e]; exact R.2.2.2.2.2.2.2.2.2.1 _
            · by_cases e : j * 4 + r' = p * 4 + r
              · right
                have ej : j = p := by omega
                have er : r' = r := by omega
                rw [e, pk_us, hh_us, er]
                exact ⟨ej, rfl, rfl⟩
              · left
                rw [pk_un e, hh_un e]
                exact ⟨rfl, rfl⟩
            · unfold wpX_join
              refine x_live1 (s := s) h8 hc lc' ?_
              refine br_f (by decide) (br_f cne (And.intro vc8 (br_t hch (br_f em ?_))))
              refine x_reg1 (s := s) hr ?_
              refine br_f (by decide) (And.intro vc8 (nm_r epc (br_f em ?_)))
              rw [ic.1, ip.1, e1, e2]
              exact And.intro (vp_in_nI ic.2 (by omega)) (And.intro (vp_in_nI ip.2 (by omega)) (nm_e (W post H)))
            · refine YB post (br_f ?_ (br_t (nI_lt (b := 4) hr (by omega)) (And.intro vc8 (nm_r epc (br_f em ?_)))))
              · intro z
                exact nI_pos (n := r) (by omega) (Int32.lt_trans z hh_m1)
              · rw [ic.1, ip.1, e1, e2]
                refine And.intro (vp_in_nI ic.2 (by omega)) (And.intro (vp_in_nI ip.2 (by omega)) (nm_r (hh_nI_up rgN _ _) ⟨25, ?_⟩))
                have := WY 25 post (by omega) (by rw [← eh]; exact H)
                rw [cn1] at this
                exact this
          · refine ⟨-3, (hh_X nl lb ld cc cs ct (nI oN) (nI tN) (nI dN) oc lv pa ch rg hd mk s), ((nI oN), (nI tN), (nI dN), bt, (fun o => nI (ow o)), bv, (fun j => nI (fd j)), bm, lv, pa, (fun j => nI (rgN j))), rel_mk R, fun post H => ?_, fun post H => ?_⟩
            · unfold wpX_join
              refine x_live1 (s := s) h8 hc lc' ?_
              refine br_f (by decide) (br_f cne (And.intro vc8 (br_t hch (br_f em ?_))))
              refine x_reg0 (s := s) g2 ?_
              exact br_t rfl H
            · refine YB post (br_c (fun _ => H) (fun z => br_f (fun y => g2 ?_) H))
              have z0 : ¬ v2 < 0 := by
                intro w
                rw [Int32.lt_iff_toInt_lt] at z w
                have m1 : (-1 : Int32).toInt = -1 := by decide
                have m0 : (0 : Int32).toInt = 0 := by decide
                rw [m1] at z
                rw [m0] at w
                have : v2.toInt = -1 := by omega
                exact em (Int32.toInt_inj.mp (this.trans m1.symm))
              obtain ⟨j, hj, rfl⟩ := nI_of z0
              exact ⟨j, (nI_ltI (b := 4) hj (by decide)).mp y, rfl⟩
  · refine ⟨-1, (hh_X nl lb ld cc cs ct (nI oN) (nI tN) (nI dN) oc lv pa ch rg hd mk s), ((nI oN), (nI tN), (nI dN), bt, (fun o => nI (ow o)), bv, (fun j => nI (fd j)), bm, lv, pa, (fun j => nI (rgN j))), rel_mk R, fun post H => ?_, fun post H => ?_⟩
    · unfold wpX_join
      refine x_live0 (s := s) h8 hv ?_
      exact br_t rfl H
    · unfold wpY_join
      refine y_live0 h8 hv ?_
      exact br_t rfl H
end
end
section
/-! store -/
section
variable {nl lb ld cc cs ct oc : Int32} {oN tN dN : Nat} {lv pa ch rg hd mk : Nat → Int32} {s : HST}
variable {g : HG} {dp ow fd rgN : Nat → Nat} {bt bv bm : Nat → Int32}
theorem hi_ow {nd : Nat → Prop} {an : Nat → Nat → Prop} {bd : Nat → Nat → Nat} {th : Nat → Prop} {va : Nat → Int32} {vw ow' vw' : Nat → Nat} (I : hh_HI s g nd an bd th fd va ow vw) (h : ∀ o, th o → ow' o = ow o) (h2 : ∀ o f, th o → f < 2 → vw' (2 * o + f) = vw (2 * o + f)) :
    hh_HI s g nd an bd th fd va ow' vw' := by
  obtain ⟨CS, CM, FM, VM, HO⟩ := I
  refine ⟨CS, cm_fw CM (fun _ _ => rfl) h, ?_, VM, ?_⟩
  · intro o f ho hf
    rw [h2 o f ho hf]
    exact FM o f ho hf
  · intro j hj
    rw [HO j hj]
    refine congrArg nI (cn_congr 25 (fun i _ => ?_))
    constructor
    · intro z; exact ⟨z.1, by rw [h i z.1]; exact z.2⟩
    · intro z; exact ⟨z.1, by rw [← h i z.1]; exact z.2⟩
theorem y_s118 {hd' : Nat → Int32} (T : hh_TK tN dN lv pa hd' dp) {f ob rf h : Nat} (hf : f < 2) (hob : ob < 25) (lh : lv h ≠ 0) (hm : ∀ o, 1 ≤ o → o < 25 → bm o ≠ 0 → lv (ow o) ≠ 0) {br : Nat → Int32} :
    ∀ (d i : Nat) (owi : Nat → Nat), i + d = 25 → 1 ≤ i → (∀ o, i ≤ o → owi o = ow o) → ∃ ow' : Nat → Nat,
    (∀ o, o < i → ow' o = owi o) ∧ (∀ o, i ≤ o → o < 25 → (1 ≤ o ∧ bm o ≠ 0 ∧ dp h < dp (ow o)) → ow' o = h) ∧ (∀ o, i ≤ o → ¬ (1 ≤ o ∧ bm o ≠ 0 ∧ dp h < dp (ow o)) → ow' o = ow o) ∧
    ∀ (n : Nat) (post : Int32 → SY → Prop), d < n → post (nI (hh_cn (fun o => 1 ≤ o ∧ bm o ≠ 0 ∧ dp h < dp (ow o)) 25)) ((nI oN), (nI tN), (nI dN), bt, (fun o => nI (ow' o)), bv, (fun j => nI (hh_up fd (2 * ob + f) rf j)), bm, lv, pa, br) →
      wY_store_118 post (nI f) (nI ob) (nI rf) (nI h) (nI (dp h)) (nI oN) (nI tN) (nI dN) n (nI (hh_cn (fun o => 1 ≤ o ∧ bm o ≠ 0 ∧ dp h < dp (ow o)) i)) (nI i) bt (fun o => nI (owi o)) bv (fun j => nI (fd j)) bm lv pa br := by
  have h3 := ((tk_tr T).2.2 h lh).2
  intro d
  induction d with
  | zero =>
    intro i owi hi i1 hw
    have e : i = 25 := by omega
    subst e
    refine ⟨owi, fun _ _ => rfl, fun o h1 h2 => by omega, fun o ho _ => hw o ho, fun n post hn H => ?_⟩
    obtain ⟨n, rfl⟩ : ∃ n', n = n' + 1 := ⟨n - 1, by omega⟩
    have e1 : 2 * nI ob + nI f = nI (2 * ob + f) := by
      rw [show (2 : Int32) = nI 2 from rfl, pk_mul, nI_add]
    refine br_t (nI_le (a := 25) (by omega) (by omega)) ?_
    rw [e1, hh_cl (by omega)]
    exact And.intro (vp_in_nI (by omega) (by omega)) (nm_r (hh_nI_up fd _ _) H)
  | succ d ih =>
    intro i owi hi i1 hw
    have ei : (nI i).toNatClampNeg = i := hh_cl (by omega)
    have vi : vp_in (nI i) 25 := vp_in_nI (by omega) (by omega)
    have hoi := hw i (Nat.le_refl _)
    have n25 : ¬ (25 : Int32) ≤ nI i := nI_ge (b := 25) (by omega) (by omega)
    by_cases z : 1 ≤ i ∧ bm i ≠ 0 ∧ dp h < dp (ow i)
    · obtain ⟨ow', a, b, c, W⟩ := ih (i + 1) (hh_up owi i h) (by omega) (by omega) (fun o ho => by rw [hh_un (by omega)]; exact hw o (by omega))
      refine ⟨ow', fun o ho => ?_, fun o h1 h2 h3 => ?_, fun o h1 h2 => ?_, fun n post hn H => ?_⟩
      · rw [a o (by omega), hh_un (by omega)]
      · by_cases e : o = i
        · subst e
          rw [a o (by omega), hh_us]
        · exact b o (by omega) h2 h3
      · by_cases e : o = i
        · subst e; exact absurd z h2
        · exact c o (by omega) h2
      · obtain ⟨n, rfl⟩ : ∃ n', n = n' + 1 := ⟨n - 1, by omega⟩
        have W' := W n post (by omega) H
        rw [cn_t z] at W'
        have lo := hm i i1 (by omega) z.2.1
        have o3 := ((tk_tr T).2.2 _ lo).2
        refine br_f n25 (And.intro vi ?_)
        rw [ei]
        refine br_f z.2.1 (And.intro vi ?_)
        show wpY_depthOf _ ((nI oN), (nI tN), (nI dN), bt, (fun o => nI (owi o)), bv, (fun j => nI (fd j)), bm, lv, pa, br) (nI (owi i))
        rw [hoi]
        refine y_dep T lo ?_
        refine br_f (nI_ge z.2.2 (by omega)) (And.intro vi (nm_r (hh_nI_up owi i h) (nm_r (nI_1 _) (nm_r (nI_1 i) W'))))
    · obtain ⟨ow', a, b, c, W⟩ := ih (i + 1) owi (by omega) (by omega) (fun o ho => hw o (by omega))
      refine ⟨ow', fun o ho => a o (by omega), fun o h1 h2 h3 => ?_, fun o h1 h2 => ?_, fun n post hn H => ?_⟩
      · by_cases e : o = i
        · subst e; exact absurd h3 z
        · exact b o (by omega) h2 h3
      · by_cases e : o = i
        · subst e; rw [a o (by omega), hoi]
        · exact c o (by omega) h2
      · obtain ⟨n, rfl⟩ : ∃ n', n = n' + 1 := ⟨n - 1, by omega⟩
        have W' := W n post (by omega) H
        rw [cn_f z] at W'
        refine br_f n25 (And.intro vi ?_)
        rw [ei]
        by_cases y : bm i = 0
        · exact br_t y (nm_r (nI_1 i) W')
        · have lo := hm i i1 (by omega) y
          refine br_f y (And.intro vi ?_)
          show wpY_depthOf _ ((nI oN), (nI tN), (nI dN), bt, (fun o => nI (owi o)), bv, (fun j => nI (fd j)), bm, lv, pa, br) (nI (owi i))
          rw [hoi]
          refine y_dep T lo ?_
          exact br_t (nI_le (Nat.le_of_not_lt fun w => z ⟨i1, y, w⟩) (by omega)) (nm_r (nI_1 i) W')
theorem r_OD (R : hh_R0 oN tN dN oc lv pa ch rg hd mk s g dp bt ow bv fd rgN) {t h : Nat} (lt : lv t ≠ 0) (ah : hh_an (hh_pr pa) h t) : hh_OD (hh_nd lv) (hh_an (hh_pr pa)) (hh_bd dp) dp hd t h := by
  have G := r_go R
  have TT := tk_tr R.1
  refine ⟨G, bd_4 dp, fun a ha => ?_, lt, ah, fun a b ha hb hlt hba => ?_⟩
  · have := TT.2.2 a ha
    exact ⟨by omega, (R.1.2.2.2.2.2.2.2.2.1 a ha).2.1, by omega⟩
  · have := (TT.2.2 b (G.2.2.1 _ _ hb lt).1).2
    show 3 - dp b + 1 ≤ 3 - dp h
    omega
theorem r_ep0 {nd : Nat → Prop} {an : Nat → Nat → Prop} {bd : Nat → Nat → Nat} {th M : Nat → Prop} {va : Nat → Int32} {sv h : Nat} (I : hh_HI s g nd an bd th fd va ow (fun j => ow (j / 2))) :
    hh_EP (hs_fr s, 0, hs_ho s, hs_fc s, hs_lc s, hs_kh s, hs_kf s, hs_nx s, hs_cv s, hs_fw s, hs_cf s, hs_qu s) g nd an bd th fd va dp ow ow (fun j => ow (j / 2)) M sv h 0 0 (fun _ => 0) := by
  refine ⟨I, rfl, (cn_z 25 (fun i _ z => z rfl)).symm, Nat.le_refl _, fun j hj => by omega, fun o => Or.inl rfl, fun o f _ hf => Or.inl ?_⟩
  show ow ((2 * o + f) / 2) = ow o
  rw [show (2 * o + f) / 2 = o by omega]
/-- at the end of a phase: who was moved -/
theorem ep_end {nd : Nat → Prop} {an : Nat → Nat → Prop} {bd : Nat → Nat → Nat} {th : Nat → Prop} {va : Nat → Int32} {ow0 vw qs : Nat → Nat} {sv h q : Nat} (O : hh_OD nd an bd dp hd sv h) {rt : Nat → Prop} (MK : hh_MK fd bm rt)
    (E : hh_EP s g nd an bd th fd va dp ow0 ow vw (fun o => bm o ≠ 0) sv h q q qs) (root : ∀ x, rt x → x = 0 ∨ (th x ∧ an (ow x) h)) :
    (∀ o f, th o → f < 2 → vw (2 * o + f) = ow o) ∧ (∀ o, 1 ≤ o → o < 25 → bm o ≠ 0 → th o ∧ an (ow o) sv ∧ dp (ow o) ≤ dp h) := by
  obtain ⟨G, hb, D, ns, ah, hbd⟩ := O
  obtain ⟨I, hq, eq, iq, Q, W, V⟩ := E
  have vv : ∀ o f, th o → f < 2 → vw (2 * o + f) = ow o := by
    intro o f ho hf
    rcases V o f ho hf with y | ⟨_, j, h1, h2, _⟩
    · exact y
    · omega
  refine ⟨vv, fun o h1 h2 h3 => ?_⟩
  have nh := (G.2.2.1 _ _ ah ns).1
  have key : ∀ x, 1 ≤ x → (x = 0 ∨ (th x ∧ an (ow x) sv ∧ dp (ow x) ≤ dp h)) → ∀ f, f < 2 → (fd (2 * x + f) = 0 ∨ (th (fd (2 * x + f)) ∧ an (ow (fd (2 * x + f))) sv ∧ dp (ow (fd (2 * x + f))) ≤ dp h)) := by
    intro x x1 hx f hf
    have hx := hx.elim (fun y => by omega) id
    have F := I.2.2.1 x f hx.1 hf
    rw [vv x f hx.1 hf] at F
    by_cases z : fd (2 * x + f) = 0
    · exact Or.inl z
    · have a := rf_th I.2.1 G.1 G.2.1 F z
      have nx' := (G.2.2.1 _ _ hx.2.1 ns).1
      have b := (G.2.2.1 _ _ a.2 nx').2.1
      exact Or.inr ⟨a.1, G.2.1 _ _ _ a.2 hx.2.1, by omega⟩
  have := MK.2.2 (fun x => x = 0 ∨ (th x ∧ an (ow x) sv ∧ dp (ow x) ≤ dp h)) (fun x x1 hx => ⟨key x x1 hx 0 (by omega), key x x1 hx 1 (by omega)⟩) (fun x hx => by
    rcases root x hx with y | y
    · exact Or.inl y
    · exact Or.inr ⟨y.1, G.2.1 _ _ _ y.2 ah, (G.2.2.1 _ _ y.2 nh).2.1⟩) o h2 h3
  exact this.elim (fun y => by omega) id
theorem m_store (R : hh_R0 oN tN dN oc lv pa ch rg hd mk s g dp bt ow bv fd rgN) (v1 v2 v3 v4 : Int32) : hh_Out (fun post => wpX_store post (hh_X nl lb ld cc cs ct (nI oN) (nI tN) (nI dN) oc lv pa ch rg hd mk s) v1 v2 v3 v4) (fun post => wpY_store post ((nI oN), (nI tN), (nI dN), bt, (fun o => nI (ow o)), bv, (fun j => nI (fd j)), bm, lv, pa, (fun j => nI (rgN j))) v1 v2 v3 v4) := by
  have h8 := R.1.2.1
  have I := R.2.2.2.2.2.2.1
  rcases r_leaf (s := s) (nl := nl) (lb := lb) (ld := ld) (cc := cc) (cs := cs) (ct := ct) (oN := oN) (tN := tN) (dN := dN) (oc := oc) (lv := lv) (pa := pa) (ch := ch) (rg := rg) (hd := hd) (mk := mk) (bm := bm) R v1 v2 v4 with ⟨r, r0, X, Y⟩ | ⟨t, ht, rfl, lt, nb, Y, ⟨ng, X⟩ | ⟨g2, g3, X⟩⟩
  · refine ⟨r, (hh_X nl lb ld cc cs ct (nI oN) (nI tN) (nI dN) oc lv pa ch rg hd mk s), ((nI oN), (nI tN), (nI dN), bt, (fun o => nI (ow o)), bv, (fun j => nI (fd j)), bm, lv, pa, (fun j => nI (rgN j))), rel_mk R, fun post H => ?_, fun post H => ?_⟩
    · unfold wpX_store
      refine X _ ?_
      exact br_f r0 H
    · unfold wpY_store
      refine Y _ ?_
      exact br_f r0 H
  · refine ⟨-3, (hh_X nl lb ld cc cs ct (nI oN) (nI tN) (nI dN) oc lv pa ch rg hd mk s), ((nI oN), (nI tN), (nI dN), bt, (fun o => nI (ow o)), bv, (fun j => nI (fd j)), bm, lv, pa, (fun j => nI (rgN j))), rel_mk R, fun post H => ?_, fun post H => ?_⟩
    · unfold wpX_store
      refine X _ ?_
      exact br_f (by decide) H
    · unfold wpY_store
      refine Y _ ?_
      refine br_t rfl ?_
      by_cases g2 : hh_gd v2
      · have g3 : ¬ hh_gd v4 := fun z => ng ⟨g2, z⟩
        obtain ⟨d, hd4, rfl⟩ := g2
        refine y_reg1 hd4 ?_
        refine br_t rfl ?_
        refine y_reg0 g3 ?_
        exact br_f (by decide) H
      · refine y_reg0 g2 ?_
        exact br_f (by decide) H
  · obtain ⟨d, hd4, rfl⟩ := g2
    obtain ⟨r, hr, rfl⟩ := g3
    have ix := hh_ix (t := t) (r := d) (by omega) hd4
    have ix2 := hh_ix (t := t) (r := r) (by omega) hr
    have e1 : (nI (t * 4 + d)).toNatClampNeg = t * 4 + d := hh_cl (by omega)
    have e2 : (nI (t * 4 + r)).toNatClampNeg = t * 4 + r := hh_cl (by omega)
    by_cases g4 : hh_gf v3
    · obtain ⟨f, hf, rfl⟩ := g4
      by_cases z : rgN (t * 4 + d) = 0
      · refine ⟨-5, (hh_X nl lb ld cc cs ct (nI oN) (nI tN) (nI dN) oc lv pa ch rg hd mk s), ((nI oN), (nI tN), (nI dN), bt, (fun o => nI (ow o)), bv, (fun j => nI (fd j)), bm, lv, pa, (fun j => nI (rgN j))), rel_mk R, fun post H => ?_, fun post H => ?_⟩
        · unfold wpX_store
          refine X _ ?_
          refine br_t rfl ?_
          refine x_fld1 (s := s) hf ?_
          refine br_f (by decide) ?_
          refine r_held R lt hd4 ?_
          rw [z]
          exact br_f hh_m1' H
        · unfold wpY_store
          refine Y _ ?_
          refine br_t rfl ?_
          refine y_reg1 hd4 ?_
          refine br_t rfl ?_
          refine y_reg1 hr ?_
          refine br_t rfl ?_
          refine y_fld1 hf ?_
          refine br_t rfl ?_
          rw [ix.1, e1]
          exact And.intro (vp_in_nI ix.2 (by omega)) (nm_r (congrArg nI z) (br_t rfl H))
      · generalize eob : rgN (t * 4 + d) = ob at z
        generalize erf : rgN (t * 4 + r) = rf
        have RMd := R.2.2.2.2.2.2.2.1 t d lt hd4
        have RMr := R.2.2.2.2.2.2.2.1 t r lt hr
        rw [eob] at RMd
        rw [erf] at RMr
        have rf25 : rf < 25 := by rw [← erf]; exact R.2.2.2.2.2.2.2.2.2.1 _
        have to := r_th R RMd z
        have kt := cm_th I.2.1 to.1
        have c5 := cm_512 I.2.1 to.1
        have wo := r_ow R to.1
        have f25 := R.2.2.2.2.2.2.2.2.1
        have O := r_OD R lt to.2
        have G := O.1
        -- the reference marks
        obtain ⟨b0, z0, W0⟩ := y_clr (oN := oN) (tN := tN) (dN := dN) (bt := bt) (bo := (fun o => nI (ow o))) (bv := bv) (bf := (fun j => nI (fd j))) (bm := bm) (lv := lv) (pa := pa) (br := (fun j => nI (rgN j)))
        obtain ⟨b1, MK, W1⟩ := y_spread (oN := oN) (tN := tN) (dN := dN) (bt := bt) (bo := (fun o => nI (ow o))) (bv := bv) (fd := fd) (bm := upd b0 rf 1) (lv := lv) (pa := pa) (br := (fun j => nI (rgN j))) f25 (fun x => x = rf) (fun x e => by rw [e]; exact up_ne') (fun x hx hb => by
          rcases up_or hb with e | e
          · exact e
          · exact absurd (z0 x hx) e)
        -- the component evacuates
        obtain ⟨s1, g1, ow1, vw1, q1, qs1, y1, E1, R1, X1, _, _, P1, V1⟩ := x_step (s := (hs_fr s, 0, hs_ho s, hs_fc s, hs_lc s, hs_kh s, hs_kf s, hs_nx s, hs_cv s, hs_fw s, hs_cf s, hs_qu s)) (nl := nl) (lb := lb) (ld := ld) (cc := cc) (cs := cs) (ct := ct) (oN := oN) (tN := tN) (dN := dN) (oc := oc) (lv := lv) (pa := pa) (ch := ch) (rg := rg) (hd := hd) (mk := mk) (sv := t) (h := ow ob) O (r_ep0 (M := fun o => b1 o ≠ 0) (sv := t) (h := ow ob) I) RMr (fun _ => MK.1 rf rfl)
        obtain ⟨s2, g2, ow2, vw2, q2, qs2, E2, X2, P2, V2⟩ := x_evacF (s := s1) (nl := nl) (lb := lb) (ld := ld) (cc := cc) (cs := cs) (ct := ct) (oN := oN) (tN := tN) (dN := dN) (oc := oc) (lv := lv) (pa := pa) (ch := ch) (rg := rg) (hd := hd) (mk := mk) O (fun p f tp mp hf => by
          have tp := cm_th (o := p) I.2.1 tp
          have c := MK.2.1 p tp.1 tp.2.1 mp
          have hf' : f = 0 ∨ f = 1 := by omega
          rcases hf' with rfl | rfl
          · exact c.1
          · exact c.2) E1
        have P1o := P1 ob to.1 rfl
        have P2o := P2 ob to.1 P1o.2.1
        have R2 := rf_ext X2 R1
        have EE := ep_end O MK E2 (fun x e => by
          rw [e]
          by_cases y : rf = 0
          · exact Or.inl y
          · exact Or.inr (rf_th E2.1.2.1 G.1 G.2.1 R2 y))
        -- marked ones are there
        have mth : ∀ o, 1 ≤ o → o < 25 → b1 o ≠ 0 → lv (ow o) ≠ 0 := fun o h1 h2 h3 => (r_ow R (EE.2 o h1 h2 h3).1).1
        obtain ⟨ow', _, y1', y2', W3⟩ := y_s118 (oN := oN) (bt := bt) (bv := bv) (fd := fd) (bm := b1) R.1 hf (ob := ob) (rf := rf) kt.2.1 wo.1 mth (br := (fun j => nI (rgN j))) 24 1 ow (by omega) (by omega) (fun _ _ => rfl)
        have iff : ∀ o, o < 25 → (ow2 o ≠ ow o ↔ 1 ≤ o ∧ b1 o ≠ 0 ∧ dp (ow ob) < dp (ow o)) := by
          intro o ho
          constructor
          · intro ne
            rcases E2.2.2.2.2.2.1 o with y | y
            · exact absurd y ne
            · exact ⟨(cm_th (o := o) I.2.1 y.1).1, y.2.2.2, y.2.2.1⟩
          · intro y e
            have := (EE.2 o y.1 ho y.2.1).2.2
            rw [e] at this
            omega
        have same : ∀ o, hh_th bt o → ow' o = ow2 o := by
          intro o tho
          have b := cm_th (o := o) I.2.1 tho
          by_cases y : 1 ≤ o ∧ b1 o ≠ 0 ∧ dp (ow ob) < dp (ow o)
          · rw [y1' o b.1 b.2.1 y]
            rcases E2.2.2.2.2.2.1 o with w | w
            · exact absurd w ((iff o b.2.1).mpr y)
            · exact w.2.1.symm
          · rw [y2' o b.1 y]
            exact (Classical.byContradiction fun w => y ((iff o b.2.1).mp (fun q => w q.symm)))
        have cnt : hh_cn (fun o => 1 ≤ o ∧ b1 o ≠ 0 ∧ dp (ow ob) < dp (ow o)) 25 = q2 := by
          rw [E2.2.2.1]
          exact cn_congr 25 (fun i hi => (iff i hi).symm)
        have cn1 : hh_cn (fun o => 1 ≤ o ∧ b1 o ≠ 0 ∧ dp (ow ob) < dp (ow o)) 1 = 0 := by
          rw [cn_f (fun y => by have := y.1; omega), cn_0]
        have ecl : gg_cl g2 ob = gg_cl g ob := P2o.1.trans P1o.1
        have I3 := hi_fld E2.1 (p := ob) to.1 hf R2
        rw [ecl] at I3
        have Rn : hh_R0 oN tN dN oc lv pa ch rg hd mk (hs_fr s2, hs_qd s2, hs_ho s2, hs_fc s2, hs_lc s2, hs_kh s2, hs_kf s2, hs_nx s2, hs_cv s2, hs_fw s2, upd (hs_cf s2) (gg_cl g ob * 2 + f) y1, hs_qu s2) g2 dp bt ow' bv (hh_up fd (2 * ob + f) rf) rgN := by
          obtain ⟨T, K, o8, o24, tb, eoc, _, RM, _, r25, mz⟩ := R
          refine ⟨T, K, o8, o24, tb, eoc, hi_ow I3 same ?_, fun t' r' a b => rf_ext (ext_trans X1 X2) (RM t' r' a b), fun j => ?_, r25, mz⟩
          · intro o f' ho hf'
            show ow' ((2 * o + f') / 2) = _
            rw [show (2 * o + f') / 2 = o by omega, same o ho]
            by_cases e : 2 * o + f' = 2 * ob + f
            · rw [e, hh_us, show o = ob by omega, P2o.2]
            · rw [hh_un e, EE.1 o f' ho hf']
          · by_cases e : j = 2 * ob + f
            · rw [e, hh_us]; exact rf25
            · rw [hh_un e]; exact f25 j
        refine ⟨nI q2, (hh_X nl lb ld cc cs ct (nI oN) (nI tN) (nI dN) oc lv pa ch rg hd mk (hs_fr s2, hs_qd s2, hs_ho s2, hs_fc s2, hs_lc s2, hs_kh s2, hs_kf s2, hs_nx s2, hs_cv s2, hs_fw s2, upd (hs_cf s2) (gg_cl g ob * 2 + f) y1, hs_qu s2)), ((nI oN), (nI tN), (nI dN), bt, (fun o => nI (ow' o)), bv, (fun j => nI (hh_up fd (2 * ob + f) rf j)), b1, lv, pa, (fun j => nI (rgN j))), rel_mk Rn, fun post H => ?_, fun post H => ?_⟩
        · have e3 : nI (gg_cl g ob) * 2 + nI f = nI (gg_cl g ob * 2 + f) := by
            rw [show (2 : Int32) = nI 2 from rfl, pk_mul, nI_add]
          unfold wpX_store
          refine X _ ?_
          refine br_t rfl ?_
          refine x_fld1 (s := s) hf ?_
          refine br_f (by decide) ?_
          refine r_held R lt hd4 ?_
          rw [eob, cr_n g z]
          refine br_t (nI_pos' (by omega)) ?_
          refine x_own (s := s) I.1 kt.2.2.1 ?_
          rw [kt.2.2.2.2, ix2.1, e2]
          refine And.intro (vp_in_nI ix2.2 (by omega)) ?_
          refine V1 _ ?_
          refine V2 _ ?_
          rw [e3, hh_cl (by omega)]
          refine And.intro (vp_in_nI (by omega) (by omega)) (nm_e ?_)
          rw [← E2.2.1] at H
          exact H
        · unfold wpY_store
          refine Y _ ?_
          refine br_t rfl ?_
          refine y_reg1 hd4 ?_
          refine br_t rfl ?_
          refine y_reg1 hr ?_
          refine br_t rfl ?_
          refine y_fld1 hf ?_
          refine br_t rfl ?_
          rw [ix.1, e1, ix2.1, e2]
          refine And.intro (vp_in_nI ix.2 (by omega)) (nm_r (congrArg nI eob) (br_f (nI_ne0 (by omega) (by omega)) (And.intro (vp_in_nI ix2.2 (by omega)) (nm_r (congrArg nI erf) (And.intro (vp_in_nI (by omega) (by omega)) (nm_r (e' := nI (ow ob)) ?_ ?_))))))
          · show nI (ow (nI ob).toNatClampNeg) = _
            rw [hh_cl (by omega)]
          · refine y_dep R.1 wo.1 ?_
            refine W0 _ ?_
            refine And.intro (vp_in_nI rf25 (by omega)) (nm_r (e' := upd b0 rf 1) ?_ ?_)
            · rw [hh_cl (by omega), hh_b1]
            · refine W1 _ ?_
              refine ⟨25, ?_⟩
              have := W3 25 post (by omega) (by rw [cnt]; exact H)
              rw [cn1] at this
              exact this
    · refine ⟨-4, (hh_X nl lb ld cc cs ct (nI oN) (nI tN) (nI dN) oc lv pa ch rg hd mk s), ((nI oN), (nI tN), (nI dN), bt, (fun o => nI (ow o)), bv, (fun j => nI (fd j)), bm, lv, pa, (fun j => nI (rgN j))), rel_mk R, fun post H => ?_, fun post H => ?_⟩
      · unfold wpX_store
        refine X _ ?_
        refine br_t rfl ?_
        refine x_fld0 (s := s) g4 ?_
        exact br_t rfl H
      · unfold wpY_store
        refine Y _ ?_
        refine br_t rfl ?_
        refine y_reg1 hd4 ?_
        refine br_t rfl ?_
        refine y_reg1 hr ?_
        refine br_t rfl ?_
        refine y_fld0 g4 ?_
        exact br_f (by decide) H
end
end
section
/-! collect -/
def hh_bd8 (dp : Nat → Nat) (t a b : Nat) : Nat := if a = 8 then (if b = 8 then 3 else 4) else if a = t then 0 else 3 - dp b
theorem bd8_4 (dp : Nat → Nat) (t : Nat) : ∀ a b, hh_bd8 dp t a b ≤ 4 := by
  intro a b
  unfold hh_bd8
  by_cases h : a = 8
  · rw [if_pos h]
    by_cases h2 : b = 8
    · rw [if_pos h2]; omega
    · rw [if_neg h2]; omega
  · rw [if_neg h]
    by_cases h2 : a = t
    · rw [if_pos h2]; omega
    · rw [if_neg h2]; omega
theorem ho_mv {ho : Nat → Int32} {th : Nat → Prop} {ow ow' : Nat → Nat} (HO : ∀ j, j ≤ 8 → ho j = nI (hh_cn (fun p => th p ∧ ow p = j) 25)) {c p : Nat} (c8 : c ≤ 8) (p8 : p ≤ 8) (pc : p ≠ c) (w1 : ∀ o, th o → ow' o = hh_mv c p (ow o)) :
    ∀ j, j ≤ 8 → upd (upd ho p (ho p + ho c)) c 0 j = nI (hh_cn (fun o => th o ∧ ow' o = j) 25) := by
  intro j hj
  by_cases e : j = c
  · subst e
    rw [pk_us, cn_z 25 (fun i _ hi => ?_)]
    · rfl
    · have h2 := hi.2
      rw [w1 i hi.1] at h2
      by_cases z : ow i = j
      · rw [z, mv_t] at h2; exact pc h2
      · rw [mv_f z] at h2; exact z h2
  · rw [pk_un e]
    by_cases e2 : j = p
    · subst e2
      rw [pk_us, HO j hj, HO c c8, nI_add]
      refine congrArg nI (cn_sum 25 (fun i _ => ?_) (fun i _ z => ?_)).symm
      · constructor
        · intro z
          have h2 := z.2
          rw [w1 i z.1] at h2
          by_cases y : ow i = c
          · exact Or.inr ⟨z.1, y⟩
          · rw [mv_f y] at h2; exact Or.inl ⟨z.1, h2⟩
        · intro z
          rcases z with z | z
          · refine ⟨z.1, ?_⟩
            rw [w1 i z.1, z.2]; exact mv_f e
          · refine ⟨z.1, ?_⟩
            rw [w1 i z.1, z.2]; exact mv_t _ _
      · exact e (z.1.2.symm.trans z.2.2)
    · rw [pk_un e2, HO j hj]
      refine congrArg nI (cn_congr 25 (fun i _ => ?_))
      constructor
      · intro z
        refine ⟨z.1, ?_⟩
        rw [w1 i z.1, z.2]; exact mv_f e
      · intro z
        have h2 := z.2
        rw [w1 i z.1] at h2
        by_cases y : ow i = c
        · rw [y, mv_t] at h2; exact absurd h2.symm e2
        · rw [mv_f y] at h2; exact ⟨z.1, h2⟩
section
variable {nl lb ld cc cs ct oc : Int32} {oN tN dN : Nat} {lv pa ch rg hd mk : Nat → Int32} {s : HST}
variable {g : HG} {dp ow fd rgN : Nat → Nat} {bt bv bm : Nat → Int32}
/-- the ghost behind splice(t, limbo) -/
def hh_g8 (g : HG) (t : Nat) : HG := (gg_us g, fun x => hh_mv t 8 (gg_hp g x), gg_ob g, gg_cl g)
theorem r_lf (R : hh_R0 oN tN dN oc lv pa ch rg hd mk s g dp bt ow bv fd rgN) {t : Nat} (nb : ¬ hh_bz lv pa t) : ∀ b, lv b ≠ 0 → hh_an (hh_pr pa) t b → b = t :=
  leaf_an (nd := hh_nd lv) (tk_tr R.1).1 (tk_tr R.1).2.1 (tk_leaf R.1 nb)
theorem r_an8 (R : hh_R0 oN tN dN oc lv pa ch rg hd mk s g dp bt ow bv fd rgN) {t : Nat} (lt : lv t ≠ 0) (nb : ¬ hh_bz lv pa t) : ∀ a b, lv b ≠ 0 → hh_an (hh_pr pa) a b → hh_an8 (hh_pr pa) t (hh_mv t 8 a) (hh_mv t 8 b) := by
  intro a b hb h
  have G := r_go R
  have na := (G.2.2.1 a b h hb).1
  have a8 := r_t8 R na
  have b8 := r_t8 R hb
  by_cases e : b = t
  · subst e
    rw [mv_t]
    by_cases e2 : a = b
    · subst e2; rw [mv_t]; exact Or.inl ⟨rfl, Or.inl rfl⟩
    · rw [mv_f e2]; exact Or.inl ⟨rfl, Or.inr h⟩
  · rw [mv_f e]
    by_cases e2 : a = t
    · subst e2; exact absurd (r_lf R nb b hb h) e
    · rw [mv_f e2]; exact Or.inr ⟨by omega, by omega, h⟩
theorem r_rf8 (R : hh_R0 oN tN dN oc lv pa ch rg hd mk s g dp bt ow bv fd rgN) {t : Nat} (lt : lv t ≠ 0) (nb : ¬ hh_bz lv pa t) : ∀ x o h, lv h ≠ 0 → hh_Rf g (hh_an (hh_pr pa)) x o h → hh_Rf (hh_g8 g t) (hh_an8 (hh_pr pa) t) x o (hh_mv t 8 h) := by
  intro x o h hh F
  rcases F with F | ⟨y, e1, u, e2, a⟩
  · exact Or.inl F
  · exact Or.inr ⟨y, e1, u, e2, r_an8 R lt nb _ _ hh a⟩
theorem r_O8 (R : hh_R0 oN tN dN oc lv pa ch rg hd mk s g dp bt ow bv fd rgN) {t : Nat} (lt : lv t ≠ 0) : hh_OD (hh_nd8 (hh_nd lv)) (hh_an8 (hh_pr pa) t) (hh_bd8 dp t) (hh_up dp 8 4) hd 8 t := by
  have TT := tk_tr R.1
  have t8 := TT.2.2 t lt
  refine ⟨go_8 TT.1 TT.2.2 lt, bd8_4 dp t, fun a ha => ?_, Or.inl rfl, Or.inl ⟨rfl, Or.inr (an_refl _ _)⟩, fun a b ha hb hlt hba => ?_⟩
  · rcases ha with e | h
    · subst e; rw [hh_us]; exact ⟨by omega, R.1.2.2.2.2.2.2.2.1, by omega⟩
    · have := TT.2.2 a h
      rw [hh_un (by omega)]
      exact ⟨by omega, (R.1.2.2.2.2.2.2.2.2.1 a h).2.1, by omega⟩
  · have b8 : b = 8 := by
      rcases hb with ⟨_, e | h⟩ | ⟨e, _⟩
      · exact e
      · have nb := (r_go R).2.2.1 b t h lt
        have := TT.2.2 b nb.1
        rw [hh_un (by omega), hh_un (by omega)] at hlt
        omega
      · exact absurd rfl e
    subst b8
    have a8 : a = 8 := by
      rcases hba with ⟨e, _⟩ | ⟨_, e, _⟩
      · exact e
      · exact absurd rfl e
    subst a8
    unfold hh_bd8
    rw [if_pos rfl, if_pos rfl, if_pos rfl, if_neg (by omega)]
    omega
theorem r_I8 (R : hh_R0 oN tN dN oc lv pa ch rg hd mk s g dp bt ow bv fd rgN) {t : Nat} (lt : lv t ≠ 0) (nb : ¬ hh_bz lv pa t) {fc lc kh nx : Nat → Int32} (CS' : hh_CS fc lc kh (hs_kf s) nx (hs_fr s) (gg_us g) (fun x => hh_mv t 8 (gg_hp g x))) :
    hh_HI (hs_fr s, hs_qd s, upd (upd (hs_ho s) 8 (hs_ho s 8 + hs_ho s t)) t 0, fc, lc, kh, hs_kf s, nx, hs_cv s, hs_fw s, hs_cf s, hs_qu s) (hh_g8 g t) (hh_nd8 (hh_nd lv)) (hh_an8 (hh_pr pa) t) (hh_bd8 dp t) (hh_th bt) fd bv (fun o => hh_mv t 8 (ow o)) (fun j => hh_mv t 8 (ow (j / 2))) := by
  have G := r_go R
  have t8 := r_t8 R lt
  have I := R.2.2.2.2.2.2.1
  obtain ⟨CS, CM, FM, VM, HO⟩ := I
  refine ⟨CS', ?_, ?_, VM, ?_⟩
  · refine cm_map (us' := gg_us g) (hp' := fun x => hh_mv t 8 (gg_hp g x)) CM ?_ ?_ ?_
    · intro x u
      have a := cm_us CM u
      have h8 := r_t8 R a.2.2
      have w8 := (r_ow R a.2.1).2
      refine ⟨u, a.2.1, ?_, fun n hn => ?_⟩
      · show hh_nd8 (hh_nd lv) (hh_mv t 8 (gg_hp g x))
        by_cases e : gg_hp g x = t
        · rw [e, mv_t]; exact Or.inl rfl
        · rw [mv_f e]; exact Or.inr a.2.2
      · have hn : n ≤ 3 - dp (ow (gg_ob g x)) := hn
        show n ≤ hh_bd8 dp t (hh_mv t 8 (gg_hp g x)) (hh_mv t 8 (ow (gg_ob g x)))
        unfold hh_bd8
        by_cases e : gg_hp g x = t
        · rw [e, mv_t, if_pos rfl]
          by_cases e2 : ow (gg_ob g x) = t
          · rw [e2, mv_t, if_pos rfl]; omega
          · rw [mv_f e2, if_neg (by omega)]; omega
        · have e2 : ow (gg_ob g x) ≠ t := fun z => by
            have b := cm_own CM G.1 G.2.1 u
            rw [z] at b
            exact e (r_lf R nb _ a.2.2 b)
          rw [mv_f e, mv_f e2, if_neg (by omega), if_neg e]
          exact hn
    · intro x y u u' _ a
      exact ⟨u', r_an8 R lt nb _ _ (cm_us CM u).2.2 a⟩
    · intro o ho
      have a := cm_th CM ho
      refine ⟨ho, a.2.2.1, ?_⟩
      show hh_mv t 8 (gg_hp g (gg_cl g o)) = hh_mv t 8 (ow o)
      rw [a.2.2.2.2]
  · intro o f ho hf
    have F := r_rf8 R lt nb _ _ _ (r_ow R ho).1 (r_fld R ho hf)
    show hh_Rf (hh_g8 g t) (hh_an8 (hh_pr pa) t) (hs_cf s (gg_cl g o * 2 + f)) (fd (2 * o + f)) (hh_mv t 8 (ow ((2 * o + f) / 2)))
    rw [show (2 * o + f) / 2 = o by omega]
    exact F
  · exact ho_mv HO (c := t) (p := 8) (by omega) (by omega) (by omega) (fun _ _ => rfl)
end
section
variable {nl lb ld cc cs ct oc : Int32} {oN tN dN : Nat} {lv pa ch rg hd mk : Nat → Int32} {s : HST}
variable {g : HG} {nd : Nat → Prop} {an : Nat → Nat → Prop} {bd : Nat → Nat → Nat} {th M : Nat → Prop} {fd ow0 ow vw dp qs rgN : Nat → Nat} {va : Nat → Int32} {sv t q : Nat}
theorem x_c28e (O : hh_OD nd an bd dp hd sv t) (hM : ∀ p f, th p → M p → f < 2 → M (fd (2 * p + f))) (E : hh_EP s g nd an bd th fd va dp ow0 ow vw M sv t 0 q qs) :
    ∃ (s2 : HST) (g2 : HG) (ow2 vw2 : Nat → Nat) (q2 : Nat) (qs2 : Nat → Nat) (fr : Int32) (fc lc nx : Nat → Int32), hh_EP s2 g2 nd an bd th fd va dp ow0 ow2 vw2 M sv t q2 q2 qs2 ∧ hh_Ext g g2 ∧
      hh_CS fc lc (hs_kh s2) (hs_kf s2) nx fr (fun c => gg_us g2 c ∧ gg_hp g2 c ≠ 8) (gg_hp g2) ∧
      ∀ (n : Nat) (post : Int32 → SX → Prop), post (hs_ho s2 8) (hh_X nl lb ld cc cs ct (nI oN) (nI tN) (nI dN) (oc - hs_ho s2 8) lv pa ch rg hd mk (fr, hs_qd s2, upd (hs_ho s2) 8 0, fc, lc, hs_kh s2, hs_kf s2, nx, hs_cv s2, hs_fw s2, hs_cf s2, hs_qu s2)) → wX_collect_28 post (nI t) (n + 1) (nI 4) nl lb ld cc cs ct (nI oN) (nI tN) (nI dN) oc (hs_fr s) (hs_qd s) lv pa ch rg hd (hs_ho s) (hs_fc s) (hs_lc s) (hs_kh s) (hs_kf s) (hs_nx s) (hs_cv s) (hs_fw s) (hs_cf s) mk (hs_qu s) := by
  obtain ⟨s2, g2, ow2, vw2, q2, qs2, E2, X2, P2, V2⟩ := x_evacF (s := s) (nl := nl) (lb := lb) (ld := ld) (cc := cc) (cs := cs) (ct := ct) (oN := oN) (tN := tN) (dN := dN) (oc := oc) (lv := lv) (pa := pa) (ch := ch) (rg := rg) (hd := hd) (mk := mk) O hM E
  obtain ⟨fc, lc, nx, fr, CS', W⟩ := x_flimbo (s := s2) (nl := nl) (lb := lb) (ld := ld) (cc := cc) (cs := cs) (ct := ct) (oN := oN) (tN := tN) (dN := dN) (oc := oc - hs_ho s2 8) (lv := lv) (pa := pa) (ch := ch) (rg := rg) (hd := hd) (mk := mk) E2.1.1
  refine ⟨s2, g2, ow2, vw2, q2, qs2, fr, fc, lc, nx, E2, X2, CS', fun n post H => ?_⟩
  refine br_t (nI_le (a := 4) (by omega) (by omega)) ?_
  refine V2 _ ?_
  refine nm_e (nm_e ?_)
  refine W _ ?_
  exact H
theorem x_c28 (O : hh_OD nd an bd dp hd sv t) (t8 : t < 8) (hM : ∀ p f, th p → M p → f < 2 → M (fd (2 * p + f))) (mr : ∀ r, r < 4 → M (rgN (t * 4 + r))) : ∀ (d i q : Nat) (s : HST) (g : HG) (ow vw qs : Nat → Nat) (rg : Nat → Int32), i + d = 4 →
    hh_EP s g nd an bd th fd va dp ow0 ow vw M sv t 0 q qs → (∀ r, r < i → hh_Rf g an (rg (t * 4 + r)) (rgN (t * 4 + r)) t) → (∀ r, i ≤ r → r < 4 → hh_Rf g an (rg (t * 4 + r)) (rgN (t * 4 + r)) sv) →
    ∃ (rg' : Nat → Int32) (s2 : HST) (g2 : HG) (ow2 vw2 : Nat → Nat) (q2 : Nat) (qs2 : Nat → Nat) (fr : Int32) (fc lc nx : Nat → Int32), hh_EP s2 g2 nd an bd th fd va dp ow0 ow2 vw2 M sv t q2 q2 qs2 ∧ hh_Ext g g2 ∧
      (∀ r, r < 4 → hh_Rf g2 an (rg' (t * 4 + r)) (rgN (t * 4 + r)) t) ∧ (∀ j, j < t * 4 ∨ t * 4 + 4 ≤ j → rg' j = rg j) ∧
      hh_CS fc lc (hs_kh s2) (hs_kf s2) nx fr (fun c => gg_us g2 c ∧ gg_hp g2 c ≠ 8) (gg_hp g2) ∧
      ∀ (n : Nat) (post : Int32 → SX → Prop), d < n → post (hs_ho s2 8) (hh_X nl lb ld cc cs ct (nI oN) (nI tN) (nI dN) (oc - hs_ho s2 8) lv pa ch rg' hd mk (fr, hs_qd s2, upd (hs_ho s2) 8 0, fc, lc, hs_kh s2, hs_kf s2, nx, hs_cv s2, hs_fw s2, hs_cf s2, hs_qu s2)) → wX_collect_28 post (nI t) n (nI i) nl lb ld cc cs ct (nI oN) (nI tN) (nI dN) oc (hs_fr s) (hs_qd s) lv pa ch rg hd (hs_ho s) (hs_fc s) (hs_lc s) (hs_kh s) (hs_kf s) (hs_nx s) (hs_cv s) (hs_fw s) (hs_cf s) mk (hs_qu s) := by
  intro d
  induction d with
  | zero =>
    intro i q s g ow vw qs rg hi E A B
    have e : i = 4 := by omega
    subst e
    obtain ⟨s2, g2, ow2, vw2, q2, qs2, fr, fc, lc, nx, E2, X2, CS', W⟩ := x_c28e (s := s) (nl := nl) (lb := lb) (ld := ld) (cc := cc) (cs := cs) (ct := ct) (oN := oN) (tN := tN) (dN := dN) (oc := oc) (lv := lv) (pa := pa) (ch := ch) (rg := rg) (hd := hd) (mk := mk) O hM E
    refine ⟨rg, s2, g2, ow2, vw2, q2, qs2, fr, fc, lc, nx, E2, X2, fun r hr => rf_ext X2 (A r hr), fun _ _ => rfl, CS', fun n post hn H => ?_⟩
    obtain ⟨n, rfl⟩ : ∃ n', n = n' + 1 := ⟨n - 1, by omega⟩
    exact W n post H
  | succ d ih =>
    intro i q s g ow vw qs rg hi E A B
    obtain ⟨s1, g1, ow1, vw1, q1, qs1, y, E1, Ry, X1, _, _, _, V1⟩ := x_step (s := s) (nl := nl) (lb := lb) (ld := ld) (cc := cc) (cs := cs) (ct := ct) (oN := oN) (tN := tN) (dN := dN) (oc := oc) (lv := lv) (pa := pa) (ch := ch) (rg := rg) (hd := hd) (mk := mk) O E (B i (Nat.le_refl _) (by omega)) (fun _ => mr i (by omega))
    obtain ⟨rg', s2, g2, ow2, vw2, q2, qs2, fr, fc, lc, nx, E2, X2, A2, C2, CS', W⟩ := ih (i + 1) q1 s1 g1 ow1 vw1 qs1 (upd rg (t * 4 + i) y) (by omega) E1 (fun r hr => by
        by_cases e : r = i
        · subst e; rw [pk_us]; exact Ry
        · rw [pk_un (by omega)]; exact rf_ext X1 (A r (by omega))) (fun r h1 h2 => by
        rw [pk_un (by omega)]; exact rf_ext X1 (B r (by omega) h2))
    refine ⟨rg', s2, g2, ow2, vw2, q2, qs2, fr, fc, lc, nx, E2, ext_trans X1 X2, A2, fun j hj => ?_, CS', fun n post hn H => ?_⟩
    · rw [C2 j hj, pk_un (by omega)]
    · obtain ⟨n, rfl⟩ : ∃ n', n = n' + 1 := ⟨n - 1, by omega⟩
      have ix := hh_ix (t := t) (r := i) t8 (by omega)
      have e1 : (nI (t * 4 + i)).toNatClampNeg = t * 4 + i := hh_cl (by omega)
      have vi : vp_in (nI (t * 4 + i)) 32 := vp_in_nI (by omega) (by omega)
      refine br_f (nI_ge (b := 4) (by omega) (by omega)) (nm_r ix.1 (And.intro vi ?_))
      rw [e1]
      refine V1 _ ?_
      exact And.intro vi (nm_e (nm_r (nI_1 i) (W n post (by omega) H)))
end
section
variable {nl lb ld cc cs ct oc : Int32} {oN tN dN : Nat} {lv pa ch rg hd mk : Nat → Int32} {s : HST}
variable {g : HG} {dp ow fd rgN : Nat → Nat} {bt bv bm : Nat → Int32}
theorem y_c22 {t : Nat} (t8 : t < 8) (hw : ∀ o, bt o ≠ 0 → ow o < 8) : ∀ (d i : Nat) (bti : Nat → Int32), i + d = 25 → (∀ o, i ≤ o → bti o = bt o) → ∃ bt' : Nat → Int32,
    (∀ o, o < i → bt' o = bti o) ∧ (∀ o, i ≤ o → o < 25 → (bt o ≠ 0 ∧ ow o = t ∧ bm o = 0) → bt' o = 0) ∧ (∀ o, i ≤ o → ¬ (o < 25 ∧ bt o ≠ 0 ∧ ow o = t ∧ bm o = 0) → bt' o = bt o) ∧
    ∀ (n : Nat) (post : Int32 → SY → Prop), d < n → post (nI (hh_cn (fun o => bt o ≠ 0 ∧ ow o = t ∧ bm o = 0) 25)) ((nI oN), (nI tN), (nI dN), bt', (fun o => nI (ow o)), bv, (fun j => nI (fd j)), bm, lv, pa, (fun j => nI (rgN j))) →
      wY_collect_22 post (nI t) (nI oN) (nI tN) (nI dN) n (nI (hh_cn (fun o => bt o ≠ 0 ∧ ow o = t ∧ bm o = 0) i)) (nI i) bti (fun o => nI (ow o)) bv (fun j => nI (fd j)) bm lv pa (fun j => nI (rgN j)) := by
  intro d
  induction d with
  | zero =>
    intro i bti hi h
    have e : i = 25 := by omega
    subst e
    refine ⟨bti, fun _ _ => rfl, fun o h1 h2 => by omega, fun o h1 _ => h o h1, fun n post hn H => ?_⟩
    obtain ⟨n, rfl⟩ : ∃ n', n = n' + 1 := ⟨n - 1, by omega⟩
    exact br_t (nI_le (a := 25) (by omega) (by omega)) H
  | succ d ih =>
    intro i bti hi h
    have ei : (nI i).toNatClampNeg = i := hh_cl (by omega)
    have vi : vp_in (nI i) 25 := vp_in_nI (by omega) (by omega)
    have hoi := h i (Nat.le_refl _)
    have n25 : ¬ (25 : Int32) ≤ nI i := nI_ge (b := 25) (by omega) (by omega)
    by_cases z : bt i ≠ 0 ∧ ow i = t ∧ bm i = 0
    · obtain ⟨bt', a, b, c, W⟩ := ih (i + 1) (upd bti i 0) (by omega) (fun o ho => by rw [pk_un (by omega)]; exact h o (by omega))
      refine ⟨bt', fun o ho => ?_, fun o h1 h2 h3 => ?_, fun o h1 h2 => ?_, fun n post hn H => ?_⟩
      · rw [a o (by omega), pk_un (by omega)]
      · by_cases e : o = i
        · subst e
          rw [a o (by omega), pk_us]
        · exact b o (by omega) h2 h3
      · by_cases e : o = i
        · subst e; exact absurd ⟨by omega, z⟩ h2
        · exact c o (by omega) h2
      · obtain ⟨n, rfl⟩ : ∃ n', n = n' + 1 := ⟨n - 1, by omega⟩
        have W' := W n post (by omega) H
        rw [cn_t z] at W'
        refine br_f n25 (And.intro vi ?_)
        rw [ei]
        exact br_f (by rw [hoi]; exact z.1) (And.intro vi (br_t (congrArg nI z.2.1) (And.intro vi (br_t z.2.2 (And.intro vi (nm_r (e' := upd bti i 0) (by rw [hh_b0]) (nm_r (nI_1 _) (nm_r (nI_1 i) W'))))))))
    · obtain ⟨bt', a, b, c, W⟩ := ih (i + 1) bti (by omega) (fun o ho => h o (by omega))
      refine ⟨bt', fun o ho => a o (by omega), fun o h1 h2 h3 => ?_, fun o h1 h2 => ?_, fun n post hn H => ?_⟩
      · by_cases e : o = i
        · subst e; exact absurd h3 z
        · exact b o (by omega) h2 h3
      · by_cases e : o = i
        · subst e; rw [a o (by omega), hoi]
        · exact c o (by omega) h2
      · obtain ⟨n, rfl⟩ : ∃ n', n = n' + 1 := ⟨n - 1, by omega⟩
        have W' := W n post (by omega) H
        rw [cn_f z] at W'
        refine br_f n25 (And.intro vi ?_)
        rw [ei]
        by_cases y : bt i = 0
        · exact br_t (by rw [hoi]; exact y) (nm_r (nI_1 i) W')
        · have w8 := hw i y
          refine br_f (by rw [hoi]; exact y) (And.intro vi ?_)
          by_cases y2 : ow i = t
          · refine br_t (congrArg nI y2) (And.intro vi (br_f (fun w => z ⟨y, y2, w⟩) (nm_r (nI_1 i) W')))
          · exact br_f (fun q => y2 (hh_ni (by omega) (by omega) q)) (nm_r (nI_1 i) W')
/-- what is left behind a collect -/
theorem r_collect (R : hh_R0 oN tN dN oc lv pa ch rg hd mk s g dp bt ow bv fd rgN) {t : Nat} (lt : lv t ≠ 0) (nb : ¬ hh_bz lv pa t) {s2 : HST} {g2 : HG} {ow2 vw2 qs2 : Nat → Nat} {q2 : Nat} {b1 : Nat → Int32} {fr : Int32} {fc lc nx rg' : Nat → Int32}
    (MK : hh_MK fd b1 (fun x => ∃ r, r < 4 ∧ x = rgN (t * 4 + r)))
    (E : hh_EP s2 g2 (hh_nd8 (hh_nd lv)) (hh_an8 (hh_pr pa) t) (hh_bd8 dp t) (hh_th bt) fd bv (hh_up dp 8 4) (fun o => hh_mv t 8 (ow o)) ow2 vw2 (fun o => b1 o ≠ 0) 8 t q2 q2 qs2)
    (A : ∀ r, r < 4 → hh_Rf g2 (hh_an8 (hh_pr pa) t) (rg' (t * 4 + r)) (rgN (t * 4 + r)) t) (B : ∀ t' r, lv t' ≠ 0 → t' ≠ t → r < 4 → hh_Rf g2 (hh_an8 (hh_pr pa) t) (rg' (t' * 4 + r)) (rgN (t' * 4 + r)) t')
    (CS' : hh_CS fc lc (hs_kh s2) (hs_kf s2) nx fr (fun c => gg_us g2 c ∧ gg_hp g2 c ≠ 8) (gg_hp g2))
    {bt' : Nat → Int32} (t1 : ∀ o, 1 ≤ o → o < 25 → (bt o ≠ 0 ∧ ow o = t ∧ b1 o = 0) → bt' o = 0) (t2 : ∀ o, 1 ≤ o → ¬ (o < 25 ∧ bt o ≠ 0 ∧ ow o = t ∧ b1 o = 0) → bt' o = bt o) (t3 : bt' 0 = bt 0) :
    hs_ho s2 8 = nI (hh_cn (fun o => bt o ≠ 0 ∧ ow o = t ∧ b1 o = 0) 25) ∧
    hh_R0 oN tN dN (oc - hs_ho s2 8) lv pa ch rg' hd mk (fr, hs_qd s2, upd (hs_ho s2) 8 0, fc, lc, hs_kh s2, hs_kf s2, nx, hs_cv s2, hs_fw s2, hs_cf s2, hs_qu s2) (fun c => gg_us g2 c ∧ gg_hp g2 c ≠ 8, gg_hp g2, gg_ob g2, gg_cl g2) dp bt' ow bv fd rgN := by
  have G0 := r_go R
  have O := r_O8 R lt
  have G := O.1
  have t8 := r_t8 R lt
  have Wo := fun o (h : bt o ≠ 0) => r_ow R h
  have FL := fun o f (h : bt o ≠ 0) (hf : f < 2) => r_fld R h hf
  have TT := tk_tr R.1
  have RT := fun x o h (F : hh_Rf g (hh_an (hh_pr pa)) x o h) (z : o ≠ 0) => r_th R F z
  obtain ⟨T, K, o8, o24, tb, eoc, I, RM, f25, r25, mz⟩ := R
  have EE := ep_end O MK E (fun x hx => by
    obtain ⟨r, hr, e⟩ := hx
    by_cases z : x = 0
    · exact Or.inl z
    · rw [e] at z
      have := rf_th E.1.2.1 G.1 G.2.1 (A r hr) z
      rw [e]
      exact Or.inr this)
  obtain ⟨I2, hq, eq, iq, Q, W, V⟩ := E
  obtain ⟨CS2, CM2, FM2, VM2, HO2⟩ := I2
  have d8 : hh_up dp 8 4 8 = 4 := hh_us
  have dt8 : hh_up dp 8 4 t = dp t := hh_un (by omega)
  have dt3 := (TT.2.2 t lt).2
  have th1 : ∀ o, bt o ≠ 0 → 1 ≤ o ∧ o < 25 := fun o h => ⟨(cm_th (o := o) CM2 h).1, (cm_th (o := o) CM2 h).2.1⟩
  -- reachable ones are above t
  have rch : ∀ o, o < 25 → b1 o ≠ 0 → o = 0 ∨ (bt o ≠ 0 ∧ hh_an (hh_pr pa) (ow o) t) := by
    have key : ∀ x, 1 ≤ x → (x = 0 ∨ (bt x ≠ 0 ∧ hh_an (hh_pr pa) (ow x) t)) → ∀ f, f < 2 → (fd (2 * x + f) = 0 ∨ (bt (fd (2 * x + f)) ≠ 0 ∧ hh_an (hh_pr pa) (ow (fd (2 * x + f))) t)) := by
      intro x x1 hx f hf
      have hx := hx.elim (fun y => by omega) id
      by_cases z : fd (2 * x + f) = 0
      · exact Or.inl z
      · have a := RT _ _ _ (FL x f hx.1 hf) z
        exact Or.inr ⟨a.1, G0.2.1 _ _ _ a.2 hx.2⟩
    refine MK.2.2 (fun x => x = 0 ∨ (bt x ≠ 0 ∧ hh_an (hh_pr pa) (ow x) t)) (fun x x1 hx => ⟨key x x1 hx 0 (by omega), key x x1 hx 1 (by omega)⟩) (fun x hx => ?_)
    obtain ⟨r, hr, e⟩ := hx
    by_cases z : x = 0
    · exact Or.inl z
    · rw [e] at z ⊢
      exact Or.inr (RT _ _ _ (RM t r lt hr) z)
  have own : ∀ o, bt o ≠ 0 → ow2 o ≠ 8 → ow2 o = ow o := by
    intro o ho h8
    have w8 := Wo o ho
    rcases W o with e | e
    · have e : ow2 o = hh_mv t 8 (ow o) := e
      by_cases z : ow o = t
      · rw [z, mv_t] at e; exact absurd e h8
      · rw [mv_f z] at e; exact e
    · have e3 : hh_up dp 8 4 t < hh_up dp 8 4 (hh_mv t 8 (ow o)) := e.2.2.1
      by_cases z : ow o = t
      · rw [e.2.1, z]
      · rw [mv_f z, dt8, hh_un (by omega)] at e3
        have := (rch o (th1 o ho).2 e.2.2.2).elim (fun y => by have := (th1 o ho).1; omega) id
        have := (G0.2.2.1 _ _ this.2 lt).2.1
        omega
  have dead : ∀ o, bt o ≠ 0 → (ow2 o = 8 ↔ ow o = t ∧ b1 o = 0) := by
    intro o ho
    have w8 := Wo o ho
    constructor
    · intro h
      rcases W o with e | e
      · have e : ow2 o = hh_mv t 8 (ow o) := e
        refine ⟨?_, ?_⟩
        · refine Classical.byContradiction fun z => ?_
          rw [mv_f z] at e
          omega
        · refine Classical.byContradiction fun z => ?_
          have := (EE.2 o (th1 o ho).1 (th1 o ho).2 z).2.2
          rw [h, d8, dt8] at this
          omega
      · have := e.2.1
        omega
    · intro h
      rcases W o with e | e
      · have e : ow2 o = hh_mv t 8 (ow o) := e
        rw [e, h.1, mv_t]
      · exact absurd h.2 e.2.2.2
  have thi : ∀ o, hh_th bt' o ↔ hh_th bt o ∧ ow2 o ≠ 8 := by
    intro o
    show bt' o ≠ 0 ↔ bt o ≠ 0 ∧ ow2 o ≠ 8
    by_cases z : bt o ≠ 0
    · by_cases y : ow2 o = 8
      · have := t1 o (th1 o z).1 (th1 o z).2 ⟨z, (dead o z).mp y⟩
        exact ⟨fun w => absurd this w, fun w => absurd y w.2⟩
      · have := t2 o (th1 o z).1 (fun w => y ((dead o z).mpr w.2.2))
        rw [this]
        exact ⟨fun w => ⟨w, y⟩, fun w => w.1⟩
    · have e : bt' o = bt o := by
        by_cases o0 : o = 0
        · rw [o0]; exact t3
        · exact t2 o (by omega) (fun w => z w.2.1)
      rw [e]
      exact ⟨fun w => absurd w z, fun w => absurd w.1 z⟩
  have an2 : ∀ a b, b ≠ 8 → hh_an8 (hh_pr pa) t a b → a ≠ 8 ∧ hh_an (hh_pr pa) a b := by
    intro a b hb h
    rcases h with ⟨e, _⟩ | ⟨_, e, h⟩
    · exact absurd e hb
    · exact ⟨e, h⟩
  have rf2 : ∀ x o h, h ≠ 8 → hh_Rf g2 (hh_an8 (hh_pr pa) t) x o h → hh_Rf (fun c => gg_us g2 c ∧ gg_hp g2 c ≠ 8, gg_hp g2, gg_ob g2, gg_cl g2) (hh_an (hh_pr pa)) x o h := by
    intro x o h hh F
    rcases F with F | ⟨y, e1, u, e2, a⟩
    · exact Or.inl F
    · have b := an2 _ _ hh a
      exact Or.inr ⟨y, e1, ⟨u, b.1⟩, e2, b.2⟩
  have h8 : hs_ho s2 8 = nI (hh_cn (fun o => hh_th bt o ∧ ow2 o = 8) 25) := HO2 8 (by omega)
  have cnt : hh_cn (fun o => hh_th bt o ∧ ow2 o = 8) 25 = hh_cn (fun o => bt o ≠ 0 ∧ ow o = t ∧ b1 o = 0) 25 :=
    cn_congr 25 (fun i _ => ⟨fun z => ⟨z.1, (dead i z.1).mp z.2⟩, fun z => ⟨z.1, (dead i z.1).mpr z.2⟩⟩)
  refine ⟨by rw [h8, cnt], T, K, o8, o24, fun o ho => tb o ((thi o).mp ho).1, ?_, ⟨CS', ?_, ?_, ?_, ?_⟩, ?_, f25, r25, mz⟩
  · have sum := cn_sum (r := hh_th bt) (p := hh_th bt') (q := fun o => hh_th bt o ∧ ow2 o = 8) 25 (fun i _ => ⟨fun z => by
        by_cases y : ow2 i = 8
        · exact Or.inr ⟨z, y⟩
        · exact Or.inl ((thi i).mpr ⟨z, y⟩), fun z => z.elim (fun w => ((thi i).mp w).1) (fun w => w.1)⟩) (fun i _ z => ((thi i).mp z.1).2 z.2.2)
    rw [eoc, h8, sum, pk_sub (by omega)]
    exact congrArg nI (by omega)
  · refine cm_map (us' := fun c => gg_us g2 c ∧ gg_hp g2 c ≠ 8) (hp' := gg_hp g2) CM2 ?_ ?_ ?_
    · intro x u
      have a := cm_us CM2 u.1
      have b := an2 _ _ u.2 (cm_own CM2 G.1 G.2.1 u.1)
      refine ⟨u.1, (thi _).mpr ⟨a.2.1, b.1⟩, a.2.2.elim (fun z => absurd z u.2) id, fun n hn => ?_⟩
      have hn : n ≤ hh_bd8 dp t (gg_hp g2 x) (ow2 (gg_ob g2 x)) := hn
      show n ≤ 3 - dp (ow (gg_ob g2 x))
      unfold hh_bd8 at hn
      rw [if_neg u.2] at hn
      rw [← own _ a.2.1 b.1]
      by_cases e : gg_hp g2 x = t
      · rw [if_pos e] at hn; omega
      · rw [if_neg e] at hn; exact hn
    · intro x y u u' _ a
      have b := an2 _ _ u.2 a
      exact ⟨⟨u', b.1⟩, b.2⟩
    · intro o ho
      have ho' := (thi o).mp ho
      have a := cm_th CM2 ho'.1
      refine ⟨ho'.1, ⟨a.2.2.1, by rw [a.2.2.2.2]; exact ho'.2⟩, ?_⟩
      rw [a.2.2.2.2]
      exact own o ho'.1 ho'.2
  · intro o f ho hf
    have ho' := (thi o).mp ho
    have F := FM2 o f ho'.1 hf
    rw [EE.1 o f ho'.1 hf] at F
    have F2 := rf2 _ _ _ ho'.2 F
    rw [own o ho'.1 ho'.2] at F2
    show hh_Rf (fun c => gg_us g2 c ∧ gg_hp g2 c ≠ 8, gg_hp g2, gg_ob g2, gg_cl g2) (hh_an (hh_pr pa)) (hs_cf s2 (gg_cl g2 o * 2 + f)) (fd (2 * o + f)) (ow ((2 * o + f) / 2))
    rw [show (2 * o + f) / 2 = o by omega]
    exact F2
  · intro o ho
    exact VM2 o ((thi o).mp ho).1
  · intro j hj
    show upd (hs_ho s2) 8 0 j = _
    by_cases e : j = 8
    · subst e
      rw [pk_us, cn_z 25 (fun i _ hi => ?_)]
      · rfl
      · have := (Wo i ((thi i).mp hi.1).1).2
        have := hi.2
        omega
    · rw [pk_un e, HO2 j hj]
      refine congrArg nI (cn_congr 25 (fun i _ => ?_))
      constructor
      · intro z
        have y : ow2 i ≠ 8 := by rw [z.2]; exact e
        exact ⟨(thi i).mpr ⟨z.1, y⟩, by rw [← own i z.1 y]; exact z.2⟩
      · intro z
        have y := (thi i).mp z.1
        exact ⟨y.1, by rw [own i y.1 y.2]; exact z.2⟩
  · intro j r hj hr
    have j8 := (TT.2.2 j hj).1
    by_cases e : j = t
    · subst e
      exact rf2 _ _ _ (by omega) (A r hr)
    · exact rf2 _ _ _ (by omega) (B j r hj e hr)
theorem m_collect (R : hh_R0 oN tN dN oc lv pa ch rg hd mk s g dp bt ow bv fd rgN) (v1 : Int32) : hh_Out (fun post => wpX_collect post (hh_X nl lb ld cc cs ct (nI oN) (nI tN) (nI dN) oc lv pa ch rg hd mk s) v1) (fun post => wpY_collect post ((nI oN), (nI tN), (nI dN), bt, (fun o => nI (ow o)), bv, (fun j => nI (fd j)), bm, lv, pa, (fun j => nI (rgN j))) v1) := by
  have h8 := R.1.2.1
  have I := R.2.2.2.2.2.2.1
  rcases r_leaf (s := s) (nl := nl) (lb := lb) (ld := ld) (cc := cc) (cs := cs) (ct := ct) (oN := oN) (tN := tN) (dN := dN) (oc := oc) (lv := lv) (pa := pa) (ch := ch) (rg := rg) (hd := hd) (mk := mk) (bm := bm) R v1 0 0 with ⟨r, r0, X, Y⟩ | ⟨t, ht, rfl, lt, nb, Y, ⟨ng, X⟩ | ⟨g2, g3, X⟩⟩
  · refine ⟨r, (hh_X nl lb ld cc cs ct (nI oN) (nI tN) (nI dN) oc lv pa ch rg hd mk s), ((nI oN), (nI tN), (nI dN), bt, (fun o => nI (ow o)), bv, (fun j => nI (fd j)), bm, lv, pa, (fun j => nI (rgN j))), rel_mk R, fun post H => ?_, fun post H => ?_⟩
    · unfold wpX_collect
      refine X _ ?_
      exact br_f r0 H
    · unfold wpY_collect
      refine Y _ ?_
      exact br_f r0 H
  · exact absurd ⟨⟨0, by omega, rfl⟩, ⟨0, by omega, rfl⟩⟩ ng
  · have t8 := r_t8 R lt
    obtain ⟨b1, MK, WM⟩ := y_mft (oN := oN) (tN := tN) (dN := dN) (bt := bt) (bo := (fun o => nI (ow o))) (bv := bv) (bm := bm) (lv := lv) (pa := pa) R.2.2.2.2.2.2.2.2.1 R.2.2.2.2.2.2.2.2.2.1 t8
    obtain ⟨fc, lc, kh, nx, CS', WS⟩ := x_splice (s := s) (nl := nl) (lb := lb) (ld := ld) (cc := cc) (cs := cs) (ct := ct) (oN := oN) (tN := tN) (dN := dN) (oc := oc) (lv := lv) (pa := pa) (ch := ch) (rg := rg) (hd := hd) (mk := mk) I.1 (a := t) (b := 8) (hp' := fun x => hh_mv t 8 (gg_hp g x)) (by omega) (by omega) (by omega) (fun x _ e => by show hh_mv t 8 (gg_hp g x) = 8; rw [e, mv_t]) (fun x _ e => mv_f e)
    have I8 := r_I8 R lt nb CS'
    obtain ⟨rg', s2, g2, ow2, vw2, q2, qs2, fr, fc2, lc2, nx2, E2, X2, A2, C2, CS2, WC⟩ := x_c28 (dp := hh_up dp 8 4) (rgN := rgN) (M := fun o => b1 o ≠ 0) (nl := nl) (lb := lb) (ld := ld) (cc := cc) (cs := cs) (ct := ct) (oN := oN) (tN := tN) (dN := dN) (oc := oc) (lv := lv) (pa := pa) (ch := ch) (rg := rg) (hd := hd) (mk := mk) (r_O8 R lt) t8 (fun p f tp mp hf => by
        have tp := cm_th (o := p) I.2.1 tp
        have c := MK.2.1 p tp.1 tp.2.1 mp
        have hf' : f = 0 ∨ f = 1 := by omega
        rcases hf' with rfl | rfl
        · exact c.1
        · exact c.2) (fun r hr => MK.1 _ ⟨r, hr, rfl⟩) 4 0 0 _ (hh_g8 g t) _ _ (fun _ => 0) (by omega) (r_ep0 (dp := hh_up dp 8 4) I8) (fun r hr => by omega) (fun r _ hr => by
        have := r_rf8 R lt nb _ _ _ lt (R.2.2.2.2.2.2.2.1 t r lt hr)
        rw [mv_t] at this
        exact this)
    obtain ⟨bt', u0, u1, u2, WY⟩ := y_c22 (oN := oN) (tN := tN) (dN := dN) (bt := bt) (ow := ow) (bv := bv) (fd := fd) (rgN := rgN) (bm := b1) (lv := lv) (pa := pa) t8 (fun o h => (r_ow R h).2) 24 1 bt (by omega) (fun _ _ => rfl)
    have RC := r_collect (bt' := bt') R lt nb MK E2 A2 (fun t' r a b c => by
      rw [C2 _ (by omega)]
      have := r_rf8 R lt nb _ _ _ a (R.2.2.2.2.2.2.2.1 t' r a c)
      rw [mv_f b] at this
      exact rf_ext X2 this) CS2 u1 u2 (u0 0 (by omega))
    have cn1 : hh_cn (fun o => bt o ≠ 0 ∧ ow o = t ∧ b1 o = 0) 1 = 0 := by
      rw [cn_f (fun y => cm_0 I.2.1 y.1), cn_0]
    refine ⟨hs_ho s2 8, (hh_X nl lb ld cc cs ct (nI oN) (nI tN) (nI dN) (oc - hs_ho s2 8) lv pa ch rg' hd mk (fr, hs_qd s2, upd (hs_ho s2) 8 0, fc2, lc2, hs_kh s2, hs_kf s2, nx2, hs_cv s2, hs_fw s2, hs_cf s2, hs_qu s2)), ((nI oN), (nI tN), (nI dN), bt', (fun o => nI (ow o)), bv, (fun j => nI (fd j)), b1, lv, pa, (fun j => nI (rgN j))), rel_mk RC.2, fun post H => ?_, fun post H => ?_⟩
    · unfold wpX_collect
      refine X _ ?_
      refine br_t rfl ?_
      refine WS _ ?_
      exact ⟨5, WC 5 post (by omega) H⟩
    · unfold wpY_collect
      refine Y _ ?_
      refine br_t rfl ?_
      refine WM _ ?_
      refine ⟨25, ?_⟩
      have := WY 25 post (by omega) (by rw [← RC.1]; exact H)
      rw [cn1] at this
      exact this
end
end
section
/-! liveCount -/
def hh_LI (g : HG) (bt : Nat → Int32) (ow : Nat → Nat) (M : Nat → Prop) (t : Nat) (qd : Int32) (qu mk : Nat → Int32) (q : Nat) (qs : Nat → Nat) : Prop :=
  qd = nI q ∧ q = hh_cn (fun o => bt o ≠ 0 ∧ mk (gg_cl g o) ≠ 0) 25 ∧
  (∀ j, j < q → qu j = nI (gg_cl g (qs j)) ∧ bt (qs j) ≠ 0 ∧ ow (qs j) = t ∧ M (qs j) ∧ mk (gg_cl g (qs j)) ≠ 0) ∧
  (∀ c, c < 512 → mk c ≠ 0 → ∃ j, j < q ∧ c = gg_cl g (qs j))
def hh_dn (g : HG) (ow : Nat → Nat) (t : Nat) (mk : Nat → Int32) (o : Nat) : Prop := o = 0 ∨ ow o ≠ t ∨ mk (gg_cl g o) ≠ 0
theorem dn_up {g : HG} {ow : Nat → Nat} {t : Nat} {mk mk' : Nat → Int32} {o : Nat} (h : hh_dn g ow t mk o) (m : ∀ c, mk c ≠ 0 → mk' c ≠ 0) : hh_dn g ow t mk' o := by
  rcases h with h | h | h
  · exact Or.inl h
  · exact Or.inr (Or.inl h)
  · exact Or.inr (Or.inr (m _ h))
section
variable {nl lb ld cc cs ct oc : Int32} {oN tN dN : Nat} {lv pa ch rg hd mk : Nat → Int32} {s : HST}
variable {g : HG} {dp ow fd rgN : Nat → Nat} {bt bv bm : Nat → Int32}
variable {mk0 : Nat → Int32} {M : Nat → Prop} {t : Nat}
theorem li_24 (R : hh_R0 oN tN dN oc lv pa ch rg hd mk0 s g dp bt ow bv fd rgN) {qd : Int32} {qu mk : Nat → Int32} {q : Nat} {qs : Nat → Nat} (L : hh_LI g bt ow M t qd qu mk q qs) : q ≤ 24 := by
  have I := R.2.2.2.2.2.2.1
  have := cn_lt (p := fun o => bt o ≠ 0 ∧ mk (gg_cl g o) ≠ 0) (k := 0) (fun z => cm_0 I.2.1 z.1) 25 (by omega)
  have := L.2.1
  omega
theorem x_mk (R : hh_R0 oN tN dN oc lv pa ch rg hd mk0 s g dp bt ow bv fd rgN) (lt : lv t ≠ 0) {x : Int32} {o h : Nat} (F : hh_Rf g (hh_an (hh_pr pa)) x o h) (mo : o ≠ 0 → M o) {qd : Int32} {qu mk : Nat → Int32} {q : Nat} {qs : Nat → Nat} (L : hh_LI g bt ow M t qd qu mk q qs) :
    ∃ (qd' : Int32) (qu' mk' : Nat → Int32) (q' : Nat) (qs' : Nat → Nat), hh_LI g bt ow M t qd' qu' mk' q' qs' ∧ q ≤ q' ∧ (∀ j, j < q → qs' j = qs j) ∧ (∀ c, mk c ≠ 0 → mk' c ≠ 0) ∧ hh_dn g ow t mk' o ∧
      ∀ post : SX → Prop, post (hh_X nl lb ld cc cs ct (nI oN) (nI tN) (nI dN) oc lv pa ch rg hd mk' (hs_fr s, qd', hs_ho s, hs_fc s, hs_lc s, hs_kh s, hs_kf s, hs_nx s, hs_cv s, hs_fw s, hs_cf s, qu')) → wpX_mark post (hh_X nl lb ld cc cs ct (nI oN) (nI tN) (nI dN) oc lv pa ch rg hd mk (hs_fr s, qd, hs_ho s, hs_fc s, hs_lc s, hs_kh s, hs_kf s, hs_nx s, hs_cv s, hs_fw s, hs_cf s, qu)) x (nI t) := by
  have I := R.2.2.2.2.2.2.1
  have t8 := r_t8 R lt
  have q24 := li_24 R L
  by_cases z : o = 0
  · subst z
    refine ⟨qd, qu, mk, q, qs, L, Nat.le_refl _, fun _ _ => rfl, fun _ h => h, Or.inl rfl, fun post H => ?_⟩
    unfold wpX_mark
    refine x_res (s := (hs_fr s, qd, hs_ho s, hs_fc s, hs_lc s, hs_kh s, hs_kf s, hs_nx s, hs_cv s, hs_fw s, hs_cf s, qu)) I.2.1 (bd_4 dp) F ?_
    exact br_t hh_m1 H
  · have to := r_th R F z
    have kt := cm_th I.2.1 to.1
    have c5 := cm_512 I.2.1 to.1
    have w8 := (r_ow R to.1).2
    have ec : (nI (gg_cl g o)).toNatClampNeg = gg_cl g o := hh_cl (by omega)
    have vc : vp_in (nI (gg_cl g o)) 512 := vp_in_nI c5 (by omega)
    by_cases m : mk (gg_cl g o) = 0
    · by_cases w : ow o = t
      · obtain ⟨L1, L2, L3, L4⟩ := L
        have lt2 := cn_lt2 (p := fun o => bt o ≠ 0 ∧ mk (gg_cl g o) ≠ 0) (j := 0) (k := o) (n := 25) (fun y => cm_0 I.2.1 y.1) (fun y => y.2 m) (by omega) kt.2.1 (fun y => z y.symm)
        have mon : ∀ c, mk c ≠ 0 → upd mk (gg_cl g o) 1 c ≠ 0 := fun c h => up_ne h
        refine ⟨nI (q + 1), upd qu q (nI (gg_cl g o)), upd mk (gg_cl g o) 1, q + 1, hh_up qs q o, ⟨rfl, ?_, ?_, ?_⟩, by omega, fun j hj => hh_un (by omega), mon, Or.inr (Or.inr up_ne'), fun post H => ?_⟩
        · rw [L2]
          refine (cn_add1 (p := fun o => bt o ≠ 0 ∧ mk (gg_cl g o) ≠ 0) (q := fun i => bt i ≠ 0 ∧ upd mk (gg_cl g o) 1 (gg_cl g i) ≠ 0) (k := o) (fun y => y.2 m) ⟨to.1, up_ne'⟩ 25 kt.2.1 (fun i _ hi => ?_)).symm
          constructor
          · intro y; exact ⟨y.1, mon _ y.2⟩
          · intro y
            refine ⟨y.1, ?_⟩
            rcases up_or y.2 with e | e
            · exact absurd (cm_cl I.2.1 y.1 to.1 e) hi
            · exact e
        · intro j hj
          by_cases e : j = q
          · subst e
            rw [pk_us, hh_us]
            exact ⟨rfl, to.1, w, mo z, up_ne'⟩
          · have a := L3 j (by omega)
            rw [pk_un e, hh_un e]
            exact ⟨a.1, a.2.1, a.2.2.1, a.2.2.2.1, mon _ a.2.2.2.2⟩
        · intro c hc hm
          rcases up_or hm with e | e
          · exact ⟨q, by omega, by rw [hh_us]; exact e⟩
          · obtain ⟨j, hj, ej⟩ := L4 c hc e
            exact ⟨j, by omega, by rw [hh_un (by omega)]; exact ej⟩
        · unfold wpX_mark
          refine x_res (s := (hs_fr s, qd, hs_ho s, hs_fc s, hs_lc s, hs_kh s, hs_kf s, hs_nx s, hs_cv s, hs_fw s, hs_cf s, qu)) I.2.1 (bd_4 dp) F ?_
          rw [cr_n g z]
          refine br_f (nI_pos (by omega)) (And.intro vc ?_)
          rw [ec]
          refine br_t m (br_t ?_ ?_)
          · show qd < Int32.ofNat 24
            rw [L1]; exact nI_lt (b := 24) (by omega) (by omega)
          · refine x_own (s := (hs_fr s, qd, hs_ho s, hs_fc s, hs_lc s, hs_kh s, hs_kf s, hs_nx s, hs_cv s, hs_fw s, hs_cf s, qu)) I.1 kt.2.2.1 ?_
            rw [kt.2.2.2.2, w]
            refine br_t rfl (And.intro vc (nm_r (e' := upd mk (gg_cl g o) 1) (by rw [hh_b1]) (And.intro ?_ (nm_r (e' := upd qu q (nI (gg_cl g o))) ?_ (nm_r (e' := nI (q + 1)) ?_ H)))))
            · show vp_in qd 24
              rw [L1]; exact vp_in_nI (by omega) (by omega)
            · show upd qu qd.toNatClampNeg (nI (gg_cl g o)) = _
              rw [L1, hh_cl (by omega)]
            · show qd + 1 = _
              rw [L1, nI_1]
      · refine ⟨qd, qu, mk, q, qs, L, Nat.le_refl _, fun _ _ => rfl, fun _ h => h, Or.inr (Or.inl w), fun post H => ?_⟩
        unfold wpX_mark
        refine x_res (s := (hs_fr s, qd, hs_ho s, hs_fc s, hs_lc s, hs_kh s, hs_kf s, hs_nx s, hs_cv s, hs_fw s, hs_cf s, qu)) I.2.1 (bd_4 dp) F ?_
        rw [cr_n g z]
        refine br_f (nI_pos (by omega)) (And.intro vc ?_)
        rw [ec]
        refine br_t m (br_c (fun _ => ?_) (fun _ => H))
        refine x_own (s := (hs_fr s, qd, hs_ho s, hs_fc s, hs_lc s, hs_kh s, hs_kf s, hs_nx s, hs_cv s, hs_fw s, hs_cf s, qu)) I.1 kt.2.2.1 ?_
        rw [kt.2.2.2.2]
        exact br_f (fun y => w (hh_ni (by omega) (by omega) y)) H
    · refine ⟨qd, qu, mk, q, qs, L, Nat.le_refl _, fun _ _ => rfl, fun _ h => h, Or.inr (Or.inr m), fun post H => ?_⟩
      unfold wpX_mark
      refine x_res (s := (hs_fr s, qd, hs_ho s, hs_fc s, hs_lc s, hs_kh s, hs_kf s, hs_nx s, hs_cv s, hs_fw s, hs_cf s, qu)) I.2.1 (bd_4 dp) F ?_
      rw [cr_n g z]
      refine br_f (nI_pos (by omega)) (And.intro vc ?_)
      rw [ec]
      exact br_f m H
theorem x_l103 {q : Nat} (q24 : q ≤ 24) {qs : Nat → Nat} (eq : hs_qd s = nI q) (hq : ∀ j, j < q → hs_qu s j = nI (gg_cl g (qs j)) ∧ gg_cl g (qs j) < 512) : ∀ (d i : Nat) (mk : Nat → Int32), i + d = q → (∀ c, c < 512 → mk c ≠ 0 → ∃ j, i ≤ j ∧ j < q ∧ c = gg_cl g (qs j)) →
    ∃ mk' : Nat → Int32, (∀ c, c < 512 → mk' c = 0) ∧ ∀ (n : Nat) (post : Int32 → SX → Prop), d < n → post (nI q) (hh_X nl lb ld cc cs ct (nI oN) (nI tN) (nI dN) oc lv pa ch rg hd mk' s) → wX_liveCount_103 post nl lb ld cc cs ct (nI oN) (nI tN) (nI dN) oc (hs_fr s) (hs_qd s) n (nI i) lv pa ch rg hd (hs_ho s) (hs_fc s) (hs_lc s) (hs_kh s) (hs_kf s) (hs_nx s) (hs_cv s) (hs_fw s) (hs_cf s) mk (hs_qu s) := by
  intro d
  induction d with
  | zero =>
    intro i mk hi h
    refine ⟨mk, fun c hc => Classical.byContradiction fun z => ?_, fun n post hn H => ?_⟩
    · obtain ⟨j, h1, h2, _⟩ := h c hc z
      omega
    · obtain ⟨n, rfl⟩ : ∃ n', n = n' + 1 := ⟨n - 1, by omega⟩
      refine br_t ?_ ?_
      · rw [eq]; exact nI_le (by omega) (by omega)
      · rw [← eq] at H
        exact H
  | succ d ih =>
    intro i mk hi h
    have a := hq i (by omega)
    obtain ⟨mk', h', W⟩ := ih (i + 1) (upd mk (gg_cl g (qs i)) 0) (by omega) (fun c hc hm => by
      have ne : c ≠ gg_cl g (qs i) := fun e => hm (by rw [e]; exact pk_us)
      rw [pk_un ne] at hm
      obtain ⟨j, h1, h2, h3⟩ := h c hc hm
      have : j ≠ i := fun e => ne (by rw [h3, e])
      exact ⟨j, by omega, h2, h3⟩)
    refine ⟨mk', h', fun n post hn H => ?_⟩
    obtain ⟨n, rfl⟩ : ∃ n', n = n' + 1 := ⟨n - 1, by omega⟩
    have eu : hs_qu s (nI i).toNatClampNeg = nI (gg_cl g (qs i)) := by rw [hh_cl (by omega)]; exact a.1
    refine br_f ?_ (br_f (nI_ge (b := 24) (by omega) (by omega)) (And.intro (vp_in_nI (by omega) (by omega)) (And.intro ?_ (nm_r (e' := upd mk (gg_cl g (qs i)) 0) ?_ (nm_r (nI_1 i) (W n post (by omega) H))))))
    · rw [eq]; exact nI_ge (by omega) (by omega)
    · rw [eu]; exact vp_in_nI a.2 (by omega)
    · rw [eu, hh_cl (by omega), hh_b0]
theorem x_l45 (R : hh_R0 oN tN dN oc lv pa ch rg hd mk0 s g dp bt ow bv fd rgN) (lt : lv t ≠ 0) (hM : ∀ p f, bt p ≠ 0 → M p → f < 2 → M (fd (2 * p + f))) : ∀ (d i : Nat) (qd : Int32) (qu mk : Nat → Int32) (q : Nat) (qs : Nat → Nat), i + d = 24 → i ≤ q →
    hh_LI g bt ow M t qd qu mk q qs → (∀ j f, j < i → f < 2 → hh_dn g ow t mk (fd (2 * qs j + f))) →
    ∃ (qd' : Int32) (qu' mk' mk2 : Nat → Int32) (q' : Nat) (qs' : Nat → Nat), hh_LI g bt ow M t qd' qu' mk' q' qs' ∧ (∀ c, mk c ≠ 0 → mk' c ≠ 0) ∧ (∀ j f, j < q' → f < 2 → hh_dn g ow t mk' (fd (2 * qs' j + f))) ∧ (∀ c, c < 512 → mk2 c = 0) ∧
      ∀ (n : Nat) (post : Int32 → SX → Prop), d < n → post (nI q') (hh_X nl lb ld cc cs ct (nI oN) (nI tN) (nI dN) oc lv pa ch rg hd mk2 (hs_fr s, qd', hs_ho s, hs_fc s, hs_lc s, hs_kh s, hs_kf s, hs_nx s, hs_cv s, hs_fw s, hs_cf s, qu')) → wX_liveCount_45 post (nI t) n (nI i) nl lb ld cc cs ct (nI oN) (nI tN) (nI dN) oc (hs_fr (hs_fr s, qd, hs_ho s, hs_fc s, hs_lc s, hs_kh s, hs_kf s, hs_nx s, hs_cv s, hs_fw s, hs_cf s, qu)) (hs_qd (hs_fr s, qd, hs_ho s, hs_fc s, hs_lc s, hs_kh s, hs_kf s, hs_nx s, hs_cv s, hs_fw s, hs_cf s, qu)) lv pa ch rg hd (hs_ho (hs_fr s, qd, hs_ho s, hs_fc s, hs_lc s, hs_kh s, hs_kf s, hs_nx s, hs_cv s, hs_fw s, hs_cf s, qu)) (hs_fc (hs_fr s, qd, hs_ho s, hs_fc s, hs_lc s, hs_kh s, hs_kf s, hs_nx s, hs_cv s, hs_fw s, hs_cf s, qu)) (hs_lc (hs_fr s, qd, hs_ho s, hs_fc s, hs_lc s, hs_kh s, hs_kf s, hs_nx s, hs_cv s, hs_fw s, hs_cf s, qu)) (hs_kh (hs_fr s, qd, hs_ho s, hs_fc s, hs_lc s, hs_kh s, hs_kf s, hs_nx s, hs_cv s, hs_fw s, hs_cf s, qu)) (hs_kf (hs_fr s, qd, hs_ho s, hs_fc s, hs_lc s, hs_kh s, hs_kf s, hs_nx s, hs_cv s, hs_fw s, hs_cf s, qu)) (hs_nx (hs_fr s, qd, hs_ho s, hs_fc s, hs_lc s, hs_kh s, hs_kf s, hs_nx s, hs_cv s, hs_fw s, hs_cf s, qu)) (hs_cv (hs_fr s, qd, hs_ho s, hs_fc s, hs_lc s, hs_kh s, hs_kf s, hs_nx s, hs_cv s, hs_fw s, hs_cf s, qu)) (hs_fw (hs_fr s, qd, hs_ho s, hs_fc s, hs_lc s, hs_kh s, hs_kf s, hs_nx s, hs_cv s, hs_fw s, hs_cf s, qu)) (hs_cf (hs_fr s, qd, hs_ho s, hs_fc s, hs_lc s, hs_kh s, hs_kf s, hs_nx s, hs_cv s, hs_fw s, hs_cf s, qu)) mk (hs_qu (hs_fr s, qd, hs_ho s, hs_fc s, hs_lc s, hs_kh s, hs_kf s, hs_nx s, hs_cv s, hs_fw s, hs_cf s, qu)) := by
  have I := R.2.2.2.2.2.2.1
  have stop : ∀ (i : Nat) (qd : Int32) (qu mk : Nat → Int32) (qs : Nat → Nat), hh_LI g bt ow M t qd qu mk i qs → (∀ j f, j < i → f < 2 → hh_dn g ow t mk (fd (2 * qs j + f))) →
      ∃ (qd' : Int32) (qu' mk' mk2 : Nat → Int32) (q' : Nat) (qs' : Nat → Nat), hh_LI g bt ow M t qd' qu' mk' q' qs' ∧ (∀ c, mk c ≠ 0 → mk' c ≠ 0) ∧ (∀ j f, j < q' → f < 2 → hh_dn g ow t mk' (fd (2 * qs' j + f))) ∧ (∀ c, c < 512 → mk2 c = 0) ∧
      ∀ (n : Nat) (post : Int32 → SX → Prop), 0 < n → post (nI q') (hh_X nl lb ld cc cs ct (nI oN) (nI tN) (nI dN) oc lv pa ch rg hd mk2 (hs_fr s, qd', hs_ho s, hs_fc s, hs_lc s, hs_kh s, hs_kf s, hs_nx s, hs_cv s, hs_fw s, hs_cf s, qu')) → wX_liveCount_45 post (nI t) n (nI i) nl lb ld cc cs ct (nI oN) (nI tN) (nI dN) oc (hs_fr (hs_fr s, qd, hs_ho s, hs_fc s, hs_lc s, hs_kh s, hs_kf s, hs_nx s, hs_cv s, hs_fw s, hs_cf s, qu)) (hs_qd (hs_fr s, qd, hs_ho s, hs_fc s, hs_lc s, hs_kh s, hs_kf s, hs_nx s, hs_cv s, hs_fw s, hs_cf s, qu)) lv pa ch rg hd (hs_ho (hs_fr s, qd, hs_ho s, hs_fc s, hs_lc s, hs_kh s, hs_kf s, hs_nx s, hs_cv s, hs_fw s, hs_cf s, qu)) (hs_fc (hs_fr s, qd, hs_ho s, hs_fc s, hs_lc s, hs_kh s, hs_kf s, hs_nx s, hs_cv s, hs_fw s, hs_cf s, qu)) (hs_lc (hs_fr s, qd, hs_ho s, hs_fc s, hs_lc s, hs_kh s, hs_kf s, hs_nx s, hs_cv s, hs_fw s, hs_cf s, qu)) (hs_kh (hs_fr s, qd, hs_ho s, hs_fc s, hs_lc s, hs_kh s, hs_kf s, hs_nx s, hs_cv s, hs_fw s, hs_cf s, qu)) (hs_kf (hs_fr s, qd, hs_ho s, hs_fc s, hs_lc s, hs_kh s, hs_kf s, hs_nx s, hs_cv s, hs_fw s, hs_cf s, qu)) (hs_nx (hs_fr s, qd, hs_ho s, hs_fc s, hs_lc s, hs_kh s, hs_kf s, hs_nx s, hs_cv s, hs_fw s, hs_cf s, qu)) (hs_cv (hs_fr s, qd, hs_ho s, hs_fc s, hs_lc s, hs_kh s, hs_kf s, hs_nx s, hs_cv s, hs_fw s, hs_cf s, qu)) (hs_fw (hs_fr s, qd, hs_ho s, hs_fc s, hs_lc s, hs_kh s, hs_kf s, hs_nx s, hs_cv s, hs_fw s, hs_cf s, qu)) (hs_cf (hs_fr s, qd, hs_ho s, hs_fc s, hs_lc s, hs_kh s, hs_kf s, hs_nx s, hs_cv s, hs_fw s, hs_cf s, qu)) mk (hs_qu (hs_fr s, qd, hs_ho s, hs_fc s, hs_lc s, hs_kh s, hs_kf s, hs_nx s, hs_cv s, hs_fw s, hs_cf s, qu)) := by
    intro i qd qu mk qs L D
    have q24 := li_24 R L
    obtain ⟨mk2, z2, W⟩ := x_l103 (s := (hs_fr s, qd, hs_ho s, hs_fc s, hs_lc s, hs_kh s, hs_kf s, hs_nx s, hs_cv s, hs_fw s, hs_cf s, qu)) (g := g) (nl := nl) (lb := lb) (ld := ld) (cc := cc) (cs := cs) (ct := ct) (oN := oN) (tN := tN) (dN := dN) (oc := oc) (lv := lv) (pa := pa) (ch := ch) (rg := rg) (hd := hd) (mk := mk) q24 L.1 (fun j hj => ⟨(L.2.2.1 j hj).1, cm_512 I.2.1 (L.2.2.1 j hj).2.1⟩) i 0 (by omega) (fun c hc hm => by
      obtain ⟨j, hj, e⟩ := L.2.2.2 c hc hm
      exact ⟨j, by omega, hj, e⟩)
    refine ⟨qd, qu, mk, mk2, i, qs, L, fun _ h => h, D, z2, fun n post hn H => ?_⟩
    obtain ⟨n, rfl⟩ : ∃ n', n = n' + 1 := ⟨n - 1, by omega⟩
    refine br_t ?_ ⟨i + 1, W _ post (by omega) H⟩
    show qd ≤ nI i
    rw [L.1]; exact nI_le (Nat.le_refl _) (by omega)
  intro d
  induction d with
  | zero =>
    intro i qd qu mk q qs hi iq L D
    have q24 := li_24 R L
    have e : q = i := by omega
    subst e
    exact stop q qd qu mk qs L D
  | succ d ih =>
    intro i qd qu mk q qs hi iq L D
    have q24 := li_24 R L
    by_cases hiq : i < q
    · have a := L.2.2.1 i hiq
      have c5 := cm_512 I.2.1 a.2.1
      have F0 := r_fld R a.2.1 (f := 0) (by omega)
      have F1 := r_fld R a.2.1 (f := 1) (by omega)
      obtain ⟨qd1, qu1, mk1, q1, qs1, L1, le1, pq1, mn1, dn1, W1⟩ := x_mk (M := M) (s := s) (nl := nl) (lb := lb) (ld := ld) (cc := cc) (cs := cs) (ct := ct) (oN := oN) (tN := tN) (dN := dN) (oc := oc) (lv := lv) (pa := pa) (ch := ch) (rg := rg) (hd := hd) (mk := mk) R lt F0 (fun _ => hM _ 0 a.2.1 a.2.2.2.1 (by omega)) L
      obtain ⟨qd2, qu2, mk2, q2, qs2, L2, le2, pq2, mn2, dn2, W2⟩ := x_mk (M := M) (s := s) (nl := nl) (lb := lb) (ld := ld) (cc := cc) (cs := cs) (ct := ct) (oN := oN) (tN := tN) (dN := dN) (oc := oc) (lv := lv) (pa := pa) (ch := ch) (rg := rg) (hd := hd) (mk := mk1) R lt F1 (fun _ => hM _ 1 a.2.1 a.2.2.2.1 (by omega)) L1
      have pq : ∀ j, j < q → qs2 j = qs j := fun j hj => by rw [pq2 j (by omega), pq1 j hj]
      have mn : ∀ c, mk c ≠ 0 → mk2 c ≠ 0 := fun c h => mn2 c (mn1 c h)
      obtain ⟨qd', qu', mk', mkz, q', qs', L', mn', D', z', W'⟩ := ih (i + 1) qd2 qu2 mk2 q2 qs2 (by omega) (by omega) L2 (fun j f hj hf => by
        rw [pq j (by omega)]
        by_cases e : j = i
        · subst e
          have hf' : f = 0 ∨ f = 1 := by omega
          rcases hf' with rfl | rfl
          · exact dn_up dn1 mn2
          · exact dn2
        · exact dn_up (D j f (by omega) hf) mn)
      refine ⟨qd', qu', mk', mkz, q', qs', L', fun c h => mn' c (mn c h), D', z', fun n post hn H => ?_⟩
      obtain ⟨n, rfl⟩ : ∃ n', n = n' + 1 := ⟨n - 1, by omega⟩
      have ek2 : (nI (gg_cl g (qs i) * 2)).toNatClampNeg = gg_cl g (qs i) * 2 := hh_cl (by omega)
      have ek3 : (nI (gg_cl g (qs i) * 2 + 1)).toNatClampNeg = gg_cl g (qs i) * 2 + 1 := hh_cl (by omega)
      refine br_f ?_ (br_f (nI_ge (b := 24) (by omega) (by omega)) (And.intro (vp_in_nI (by omega) (by omega)) (nm_r (e' := nI (gg_cl g (qs i) * 2)) ?_ (And.intro (vp_in_nI (by omega) (by omega)) ?_))))
      · show ¬ qd ≤ nI i
        rw [L.1]; exact nI_ge hiq (by omega)
      · show qu (nI i).toNatClampNeg * 2 = _
        rw [hh_cl (by omega), a.1]
        exact pk_mul _ 2
      · rw [nI_1 (gg_cl g (qs i) * 2), ek2, ek3]
        refine W1 _ ?_
        refine And.intro (vp_in_nI (by omega) (by omega)) ?_
        refine W2 _ ?_
        exact nm_r (nI_1 i) (W' n post (by omega) H)
    · have e : q = i := by omega
      subst e
      obtain ⟨qd', qu', mk', mkz, q', qs', L', mn', D', z', W'⟩ := stop q qd qu mk qs L D
      exact ⟨qd', qu', mk', mkz, q', qs', L', mn', D', z', fun n post hn H => W' n post (by omega) H⟩
theorem x_l17 (R : hh_R0 oN tN dN oc lv pa ch rg hd mk0 s g dp bt ow bv fd rgN) (lt : lv t ≠ 0) (hM : ∀ p f, bt p ≠ 0 → M p → f < 2 → M (fd (2 * p + f))) (mr : ∀ r, r < 4 → M (rgN (t * 4 + r))) : ∀ (d i : Nat) (qd : Int32) (qu mk : Nat → Int32) (q : Nat) (qs : Nat → Nat), i + d = 4 →
    hh_LI g bt ow M t qd qu mk q qs → (∀ r, r < i → hh_dn g ow t mk (rgN (t * 4 + r))) →
    ∃ (qd' : Int32) (qu' mk' mk2 : Nat → Int32) (q' : Nat) (qs' : Nat → Nat), hh_LI g bt ow M t qd' qu' mk' q' qs' ∧ (∀ r, r < 4 → hh_dn g ow t mk' (rgN (t * 4 + r))) ∧ (∀ j f, j < q' → f < 2 → hh_dn g ow t mk' (fd (2 * qs' j + f))) ∧ (∀ c, c < 512 → mk2 c = 0) ∧
      ∀ (n : Nat) (post : Int32 → SX → Prop), d < n → post (nI q') (hh_X nl lb ld cc cs ct (nI oN) (nI tN) (nI dN) oc lv pa ch rg hd mk2 (hs_fr s, qd', hs_ho s, hs_fc s, hs_lc s, hs_kh s, hs_kf s, hs_nx s, hs_cv s, hs_fw s, hs_cf s, qu')) → wX_liveCount_17 post (nI t) n (nI i) nl lb ld cc cs ct (nI oN) (nI tN) (nI dN) oc (hs_fr (hs_fr s, qd, hs_ho s, hs_fc s, hs_lc s, hs_kh s, hs_kf s, hs_nx s, hs_cv s, hs_fw s, hs_cf s, qu)) (hs_qd (hs_fr s, qd, hs_ho s, hs_fc s, hs_lc s, hs_kh s, hs_kf s, hs_nx s, hs_cv s, hs_fw s, hs_cf s, qu)) lv pa ch rg hd (hs_ho (hs_fr s, qd, hs_ho s, hs_fc s, hs_lc s, hs_kh s, hs_kf s, hs_nx s, hs_cv s, hs_fw s, hs_cf s, qu)) (hs_fc (hs_fr s, qd, hs_ho s, hs_fc s, hs_lc s, hs_kh s, hs_kf s, hs_nx s, hs_cv s, hs_fw s, hs_cf s, qu)) (hs_lc (hs_fr s, qd, hs_ho s, hs_fc s, hs_lc s, hs_kh s, hs_kf s, hs_nx s, hs_cv s, hs_fw s, hs_cf s, qu)) (hs_kh (hs_fr s, qd, hs_ho s, hs_fc s, hs_lc s, hs_kh s, hs_kf s, hs_nx s, hs_cv s, hs_fw s, hs_cf s, qu)) (hs_kf (hs_fr s, qd, hs_ho s, hs_fc s, hs_lc s, hs_kh s, hs_kf s, hs_nx s, hs_cv s, hs_fw s, hs_cf s, qu)) (hs_nx (hs_fr s, qd, hs_ho s, hs_fc s, hs_lc s, hs_kh s, hs_kf s, hs_nx s, hs_cv s, hs_fw s, hs_cf s, qu)) (hs_cv (hs_fr s, qd, hs_ho s, hs_fc s, hs_lc s, hs_kh s, hs_kf s, hs_nx s, hs_cv s, hs_fw s, hs_cf s, qu)) (hs_fw (hs_fr s, qd, hs_ho s, hs_fc s, hs_lc s, hs_kh s, hs_kf s, hs_nx s, hs_cv s, hs_fw s, hs_cf s, qu)) (hs_cf (hs_fr s, qd, hs_ho s, hs_fc s, hs_lc s, hs_kh s, hs_kf s, hs_nx s, hs_cv s, hs_fw s, hs_cf s, qu)) mk (hs_qu (hs_fr s, qd, hs_ho s, hs_fc s, hs_lc s, hs_kh s, hs_kf s, hs_nx s, hs_cv s, hs_fw s, hs_cf s, qu)) := by
  have t8 := r_t8 R lt
  intro d
  induction d with
  | zero =>
    intro i qd qu mk q qs hi L D
    have e : i = 4 := by omega
    subst e
    obtain ⟨qd', qu', mk', mkz, q', qs', L', mn', D', z', W'⟩ := x_l45 (M := M) (s := s) (nl := nl) (lb := lb) (ld := ld) (cc := cc) (cs := cs) (ct := ct) (oN := oN) (tN := tN) (dN := dN) (oc := oc) (lv := lv) (pa := pa) (ch := ch) (rg := rg) (hd := hd) (mk := mk) R lt hM 24 0 qd qu q qs (by omega) (by omega) L (fun j f hj => by omega)
    refine ⟨qd', qu', mk', mkz, q', qs', L', fun r hr => dn_up (D r hr) mn', D', z', fun n post hn H => ?_⟩
    obtain ⟨n, rfl⟩ : ∃ n', n = n' + 1 := ⟨n - 1, by omega⟩
    exact br_t (nI_le (a := 4) (by omega) (by omega)) ⟨25, W' 25 post (by omega) H⟩
  | succ d ih =>
    intro i qd qu mk q qs hi L D
    obtain ⟨qd1, qu1, mk1, q1, qs1, L1, le1, pq1, mn1, dn1, W1⟩ := x_mk (M := M) (s := s) (nl := nl) (lb := lb) (ld := ld) (cc := cc) (cs := cs) (ct := ct) (oN := oN) (tN := tN) (dN := dN) (oc := oc) (lv := lv) (pa := pa) (ch := ch) (rg := rg) (hd := hd) (mk := mk) R lt (R.2.2.2.2.2.2.2.1 t i lt (by omega)) (fun _ => mr i (by omega)) L
    obtain ⟨qd', qu', mk', mkz, q', qs', L', A', D', z', W'⟩ := ih (i + 1) qd1 qu1 mk1 q1 qs1 (by omega) L1 (fun r hr => by
      by_cases e : r = i
      · subst e; exact dn1
      · exact dn_up (D r (by omega)) mn1)
    refine ⟨qd', qu', mk', mkz, q', qs', L', A', D', z', fun n post hn H => ?_⟩
    obtain ⟨n, rfl⟩ : ∃ n', n = n' + 1 := ⟨n - 1, by omega⟩
    have ix := hh_ix (t := t) (r := i) t8 (by omega)
    have e1 : (nI (t * 4 + i)).toNatClampNeg = t * 4 + i := hh_cl (by omega)
    refine br_f (nI_ge (b := 4) (by omega) (by omega)) ?_
    rw [ix.1, e1]
    refine And.intro (vp_in_nI ix.2 (by omega)) ?_
    refine W1 _ ?_
    exact nm_r (nI_1 i) (W' n post (by omega) H)
theorem y_l19 (hw : ∀ o, bt o ≠ 0 → ow o < 8) (ht : t < 8) {post : Int32 → SY → Prop} : ∀ d i : Nat, i + d = 25 → post (nI (hh_cn (fun o => bt o ≠ 0 ∧ ow o = t ∧ bm o ≠ 0) 25)) ((nI oN), (nI tN), (nI dN), bt, (fun o => nI (ow o)), bv, (fun j => nI (fd j)), bm, lv, pa, (fun j => nI (rgN j))) →
    wY_liveCount_19 post (nI t) (nI oN) (nI tN) (nI dN) bt (fun o => nI (ow o)) bv (fun j => nI (fd j)) bm lv pa (fun j => nI (rgN j)) (d + 1) (nI (hh_cn (fun o => bt o ≠ 0 ∧ ow o = t ∧ bm o ≠ 0) i)) (nI i) := by
  intro d
  induction d with
  | zero =>
    intro i hi H
    have e : i = 25 := by omega
    subst e
    exact br_t (nI_le (a := 25) (by omega) (by omega)) H
  | succ d ih =>
    intro i hi H
    have IH := ih (i + 1) (by omega) H
    have ei : (nI i).toNatClampNeg = i := hh_cl (by omega)
    have vi : vp_in (nI i) 25 := vp_in_nI (by omega) (by omega)
    refine br_f (nI_ge (b := 25) (by omega) (by omega)) (And.intro vi ?_)
    rw [ei]
    by_cases z : bt i = 0
    · rw [cn_f (fun y => y.1 z)] at IH
      exact br_t z (nm_r (nI_1 i) IH)
    · refine br_f z (And.intro vi ?_)
      have w8 := hw i z
      by_cases y : ow i = t
      · refine br_t (congrArg nI y) (And.intro vi ?_)
        by_cases m : bm i = 0
        · rw [cn_f (fun w => w.2.2 m)] at IH
          exact br_t m (nm_r (nI_1 i) IH)
        · rw [cn_t ⟨z, y, m⟩] at IH
          exact br_f m (nm_r (nI_1 _) (nm_r (nI_1 i) IH))
      · rw [cn_f (fun w => y w.2.1)] at IH
        exact br_f (fun w => y (hh_ni (by omega) (by omega) w)) (nm_r (nI_1 i) IH)
end
section
variable {nl lb ld cc cs ct oc : Int32} {oN tN dN : Nat} {lv pa ch rg hd mk : Nat → Int32} {s : HST}
variable {g : HG} {dp ow fd rgN : Nat → Nat} {bt bv bm : Nat → Int32}
theorem m_liveCount (R : hh_R0 oN tN dN oc lv pa ch rg hd mk s g dp bt ow bv fd rgN) (v1 : Int32) : hh_Out (fun post => wpX_liveCount post (hh_X nl lb ld cc cs ct (nI oN) (nI tN) (nI dN) oc lv pa ch rg hd mk s) v1) (fun post => wpY_liveCount post ((nI oN), (nI tN), (nI dN), bt, (fun o => nI (ow o)), bv, (fun j => nI (fd j)), bm, lv, pa, (fun j => nI (rgN j))) v1) := by
  have h8 := R.1.2.1
  have I := R.2.2.2.2.2.2.1
  by_cases hv : hh_lv lv tN v1
  · obtain ⟨t, ht, rfl, lt⟩ := hv
    have t8 := r_t8 R lt
    have G := r_go R
    have mz := R.2.2.2.2.2.2.2.2.2.2
    obtain ⟨b1, MK, WM⟩ := y_mft (oN := oN) (tN := tN) (dN := dN) (bt := bt) (bo := (fun o => nI (ow o))) (bv := bv) (bm := bm) (lv := lv) (pa := pa) R.2.2.2.2.2.2.2.2.1 R.2.2.2.2.2.2.2.2.2.1 t8
    have L0 : hh_LI g bt ow (fun o => b1 o ≠ 0) t 0 (hs_qu s) mk 0 (fun _ => 0) := by
      refine ⟨rfl, (cn_z 25 (fun i _ z => z.2 (mz _ (cm_512 (o := i) I.2.1 z.1)))).symm, fun j hj => by omega, fun c hc hm => absurd (mz c hc) hm⟩
    obtain ⟨qd', qu', mk', mkz, q', qs', L', A', D', z', W'⟩ := x_l17 (M := fun o => b1 o ≠ 0) (s := s) (nl := nl) (lb := lb) (ld := ld) (cc := cc) (cs := cs) (ct := ct) (oN := oN) (tN := tN) (dN := dN) (oc := oc) (lv := lv) (pa := pa) (ch := ch) (rg := rg) (hd := hd) (mk := mk) R lt (fun p f tp mp hf => by
      have tp := cm_th (o := p) I.2.1 tp
      have c := MK.2.1 p tp.1 tp.2.1 mp
      have hf' : f = 0 ∨ f = 1 := by omega
      rcases hf' with rfl | rfl
      · exact c.1
      · exact c.2) (fun r hr => MK.1 _ ⟨r, hr, rfl⟩) 4 0 0 (hs_qu s) 0 (fun _ => 0) (by omega) L0 (fun r hr => by omega)
    have key : ∀ x, 1 ≤ x → (x = 0 ∨ (bt x ≠ 0 ∧ hh_an (hh_pr pa) (ow x) t ∧ (ow x = t → mk' (gg_cl g x) ≠ 0))) → ∀ f, f < 2 → (fd (2 * x + f) = 0 ∨ (bt (fd (2 * x + f)) ≠ 0 ∧ hh_an (hh_pr pa) (ow (fd (2 * x + f))) t ∧ (ow (fd (2 * x + f)) = t → mk' (gg_cl g (fd (2 * x + f))) ≠ 0))) := by
      intro x x1 hx f hf
      have hx := hx.elim (fun y => by omega) id
      by_cases z : fd (2 * x + f) = 0
      · exact Or.inl z
      · have a := r_th R (r_fld R hx.1 hf) z
        refine Or.inr ⟨a.1, G.2.1 _ _ _ a.2 hx.2.1, fun e => ?_⟩
        have nx' := G.2.2.1 _ _ hx.2.1 lt
        have a2 := a.2
        rw [e] at a2
        have b := G.2.2.1 _ _ a2 nx'.1
        have ex : ow x = t := nx'.2.2 (by omega)
        have cx5 := cm_512 (o := x) I.2.1 hx.1
        obtain ⟨j, hj, ej⟩ := L'.2.2.2 _ cx5 (hx.2.2 ex)
        have exj : x = qs' j := cm_cl I.2.1 hx.1 (L'.2.2.1 j hj).2.1 ej
        rcases D' j f hj hf with d | d | d
        · rw [← exj] at d; exact absurd d z
        · rw [← exj] at d; exact absurd e d
        · rw [← exj] at d; exact d
    have cl := MK.2.2 (fun x => x = 0 ∨ (bt x ≠ 0 ∧ hh_an (hh_pr pa) (ow x) t ∧ (ow x = t → mk' (gg_cl g x) ≠ 0))) (fun x x1 hx => ⟨key x x1 hx 0 (by omega), key x x1 hx 1 (by omega)⟩) (fun x hx => by
      obtain ⟨r, hr, e⟩ := hx
      by_cases z : x = 0
      · exact Or.inl z
      · rw [e] at z ⊢
        have a := r_th R (R.2.2.2.2.2.2.2.1 t r lt hr) z
        refine Or.inr ⟨a.1, a.2, fun e2 => ?_⟩
        rcases A' r hr with d | d | d
        · exact absurd d z
        · exact absurd e2 d
        · exact d)
    have cnt : q' = hh_cn (fun o => bt o ≠ 0 ∧ ow o = t ∧ b1 o ≠ 0) 25 := by
      rw [L'.2.1]
      refine cn_congr 25 (fun i hi => ?_)
      constructor
      · intro z
        obtain ⟨j, hj, ej⟩ := L'.2.2.2 _ (cm_512 (o := i) I.2.1 z.1) z.2
        have a := L'.2.2.1 j hj
        have e : i = qs' j := cm_cl I.2.1 z.1 a.2.1 ej
        rw [e]
        exact ⟨a.2.1, a.2.2.1, a.2.2.2.1⟩
      · intro z
        refine ⟨z.1, ?_⟩
        rcases cl i hi z.2.2 with y | y
        · subst y; exact absurd z.1 (cm_0 I.2.1)
        · exact y.2.2 z.2.1
    have Rn : hh_R0 oN tN dN oc lv pa ch rg hd mkz (hs_fr s, qd', hs_ho s, hs_fc s, hs_lc s, hs_kh s, hs_kf s, hs_nx s, hs_cv s, hs_fw s, hs_cf s, qu') g dp bt ow bv fd rgN := by
      obtain ⟨T, K, o8, o24, tb, eoc, I, RM, f25, r25, mz⟩ := R
      exact ⟨T, K, o8, o24, tb, eoc, I, RM, f25, r25, z'⟩
    have cn1 : hh_cn (fun o => bt o ≠ 0 ∧ ow o = t ∧ b1 o ≠ 0) 1 = 0 := by
      rw [cn_f (fun y => cm_0 I.2.1 y.1), cn_0]
    refine ⟨nI q', (hh_X nl lb ld cc cs ct (nI oN) (nI tN) (nI dN) oc lv pa ch rg hd mkz (hs_fr s, qd', hs_ho s, hs_fc s, hs_lc s, hs_kh s, hs_kf s, hs_nx s, hs_cv s, hs_fw s, hs_cf s, qu')), ((nI oN), (nI tN), (nI dN), bt, (fun o => nI (ow o)), bv, (fun j => nI (fd j)), b1, lv, pa, (fun j => nI (rgN j))), rel_mk Rn, fun post H => ?_, fun post H => ?_⟩
    · unfold wpX_liveCount
      refine x_live1 (s := s) h8 ht lt ?_
      exact br_f (by decide) ⟨5, W' 5 post (by omega) H⟩
    · unfold wpY_liveCount
      refine y_live1 h8 ht lt ?_
      refine br_f (by decide) ?_
      refine WM _ ?_
      refine ⟨25, ?_⟩
      rw [cnt] at H
      have := y_l19 (oN := oN) (tN := tN) (dN := dN) (lv := lv) (pa := pa) (fd := fd) (rgN := rgN) (bv := bv) (bm := b1) (fun o h => (r_ow R h).2) (t := t) t8 24 1 (by omega) H
      rw [cn1] at this
      exact this
  · refine ⟨-1, (hh_X nl lb ld cc cs ct (nI oN) (nI tN) (nI dN) oc lv pa ch rg hd mk s), ((nI oN), (nI tN), (nI dN), bt, (fun o => nI (ow o)), bv, (fun j => nI (fd j)), bm, lv, pa, (fun j => nI (rgN j))), rel_mk R, fun post H => ?_, fun post H => ?_⟩
    · unfold wpX_liveCount
      refine x_live0 (s := s) h8 hv ?_
      exact br_t rfl H
    · unfold wpY_liveCount
      refine y_live0 h8 hv ?_
      exact br_t rfl H
end
end
section
/-! the constructors -/
theorem hh_clamp (p : Int32) (lo hi : Nat) (h : lo ≤ hi) (h2 : hi < 2000) : ∃ n, lo ≤ n ∧ n ≤ hi ∧ ∀ A : Int32 → Prop, A (nI n) →
    ((nI lo ≤ p → ((p ≤ nI hi → A p) ∧ (¬ p ≤ nI hi → A (nI hi)))) ∧ (¬ nI lo ≤ p → A (nI lo))) := by
  by_cases a : nI lo ≤ p
  · by_cases b : p ≤ nI hi
    · have p0 : ¬ p < 0 := by
        intro z
        have := Int32.lt_of_le_of_lt a z
        exact nI_pos (by omega) this
      obtain ⟨j, hj, rfl⟩ := nI_of p0
      exact ⟨j, (nI_leI (by omega) hj).mp a, (nI_leI hj (by omega)).mp b, fun A H => br_t a (br_t b H)⟩
    · exact ⟨hi, h, Nat.le_refl _, fun A H => br_t a (br_f b H)⟩
  · exact ⟨lo, Nat.le_refl _, h, fun A H => br_f a H⟩
theorem x_clamp {post : Int32 → Prop} {u : SX} {p lo hi : Int32} {n : Nat} (H : ∀ A : Int32 → Prop, A (nI n) → ((lo ≤ p → ((p ≤ hi → A p) ∧ (¬ p ≤ hi → A hi))) ∧ (¬ lo ≤ p → A lo))) (h : post (nI n)) : wpX_clamp post u p lo hi := by
  obtain ⟨a1, a2, a3, a4, a5, a6, a7, a8, a9, a10, a11, a12, a13, a14, a15, a16, a17, a18, a19, a20, a21, a22, a23, a24, a25, a26, a27, a28⟩ := u
  exact H post h
section
variable {nl lb ld cc cs ct oc : Int32} {oN tN dN : Nat} {lv pa ch rg hd mk : Nat → Int32} {s : HST}
theorem x_i302 : ∀ (d i : Nat) (rg : Nat → Int32), i + d = 4 → (∀ j, j < i → rg j = -1) → ∃ rg' : Nat → Int32, (∀ j, j < 4 → rg' j = -1) ∧
    ∀ (n : Nat) (post : SX → Prop), d < n → post (hh_X nl lb ld cc cs ct (nI oN) (nI tN) (nI dN) oc lv pa ch rg' hd mk s) → wX_init_302 post nl lb ld cc cs ct (nI oN) (nI tN) (nI dN) oc (hs_fr s) (hs_qd s) n (nI i) lv pa ch rg hd (hs_ho s) (hs_fc s) (hs_lc s) (hs_kh s) (hs_kf s) (hs_nx s) (hs_cv s) (hs_fw s) (hs_cf s) mk (hs_qu s) := by
  intro d
  induction d with
  | zero =>
    intro i rg hi h
    refine ⟨rg, fun j hj => h j (by omega), fun n post hn H => ?_⟩
    obtain ⟨n, rfl⟩ : ∃ n', n = n' + 1 := ⟨n - 1, by omega⟩
    exact br_t (nI_le (a := 4) (by omega) (by omega)) H
  | succ d ih =>
    intro i rg hi h
    obtain ⟨rg', h', W⟩ := ih (i + 1) (upd rg i (-1)) (by omega) (fun j hj => by
      by_cases e : j = i
      · subst e; exact pk_us
      · rw [pk_un e]; exact h j (by omega))
    refine ⟨rg', h', fun n post hn H => ?_⟩
    obtain ⟨n, rfl⟩ : ∃ n', n = n' + 1 := ⟨n - 1, by omega⟩
    exact br_f (nI_ge (b := 4) (by omega) (by omega)) (And.intro (vp_in_nI (by omega) (by omega)) (nm_r (e' := upd rg i (-1)) (by rw [hh_cl (by omega)]) (nm_r (nI_1 i) (W n post (by omega) H))))
theorem x_i233 : ∀ (d i : Nat) (s : HST), i + d = 128 → (∀ k, k < i → hs_nx s k = if k + 1 < 128 then nI (k + 1) else -1) → ∃ nx : Nat → Int32, (∀ k, k < 128 → nx k = if k + 1 < 128 then nI (k + 1) else -1) ∧
    ∀ (n : Nat) (post : SX → Prop), d < n → (∃ n302 : Nat, wX_init_302 post nl lb ld cc cs ct (nI oN) (nI tN) (nI dN) oc 0 (hs_qd s) n302 0 (upd lv 0 1) (upd pa 0 (-1)) ch rg (upd hd 8 4) (hs_ho s) (hs_fc s) (hs_lc s) (hs_kh s) (hs_kf s) nx (hs_cv s) (hs_fw s) (hs_cf s) mk (hs_qu s)) → wX_init_233 post nl lb ld cc cs ct (nI oN) (nI tN) (nI dN) oc (hs_fr s) (hs_qd s) n (nI i) lv pa ch rg hd (hs_ho s) (hs_fc s) (hs_lc s) (hs_kh s) (hs_kf s) (hs_nx s) (hs_cv s) (hs_fw s) (hs_cf s) mk (hs_qu s) := by
  intro d
  induction d with
  | zero =>
    intro i s hi h
    refine ⟨hs_nx s, fun k hk => h k (by omega), fun n post hn H => ?_⟩
    obtain ⟨n, rfl⟩ : ∃ n', n = n' + 1 := ⟨n - 1, by omega⟩
    exact br_t (nI_le (a := 128) (by omega) (by omega)) (nm_e (nm_r (e' := upd lv 0 1) (by rw [hh_b1]) (nm_e H)))
  | succ d ih =>
    intro i s hi h
    have ei : (nI i).toNatClampNeg = i := hh_cl (by omega)
    have vi : vp_in (nI i) 128 := vp_in_nI (by omega) (by omega)
    by_cases l : i + 1 < 128
    · obtain ⟨nx, h', W⟩ := ih (i + 1) (hs_fr s, hs_qd s, hs_ho s, hs_fc s, hs_lc s, hs_kh s, hs_kf s, upd (hs_nx s) i (nI (i + 1)), hs_cv s, hs_fw s, hs_cf s, hs_qu s) (by omega) (fun k hk => by
        show upd (hs_nx s) i (nI (i + 1)) k = _
        by_cases e : k = i
        · subst e; rw [pk_us, if_pos l]
        · rw [pk_un e]; exact h k (by omega))
      refine ⟨nx, h', fun n post hn H => ?_⟩
      obtain ⟨n, rfl⟩ : ∃ n', n = n' + 1 := ⟨n - 1, by omega⟩
      refine br_f (nI_ge (b := 128) (by omega) (by omega)) (br_f ?_ (And.intro vi (nm_r (e' := upd (hs_nx s) i (nI (i + 1))) ?_ (nm_r (nI_1 i) (W n post (by omega) H)))))
      · rw [nI_1]; exact nI_ge (b := 128) l (by omega)
      · rw [ei, nI_1]
    · obtain ⟨nx, h', W⟩ := ih (i + 1) (hs_fr s, hs_qd s, hs_ho s, hs_fc s, hs_lc s, hs_kh s, hs_kf s, upd (hs_nx s) i (-1), hs_cv s, hs_fw s, hs_cf s, hs_qu s) (by omega) (fun k hk => by
        show upd (hs_nx s) i (-1) k = _
        by_cases e : k = i
        · subst e; rw [pk_us, if_neg l]
        · rw [pk_un e]; exact h k (by omega))
      refine ⟨nx, h', fun n post hn H => ?_⟩
      obtain ⟨n, rfl⟩ : ∃ n', n = n' + 1 := ⟨n - 1, by omega⟩
      refine br_f (nI_ge (b := 128) (by omega) (by omega)) (br_t ?_ (And.intro vi (nm_r (e' := upd (hs_nx s) i (-1)) ?_ (nm_r (nI_1 i) (W n post (by omega) H)))))
      · rw [nI_1]; exact nI_le (a := 128) (by omega) (by omega)
      · rw [ei]
theorem x_i211 : ∀ (d i : Nat) (s : HST), i + d = 9 → (∀ j, j < i → hs_fc s j = -1) → (∀ j, hs_ho s j = 0) → ∃ (fc lc ho : Nat → Int32), (∀ j, j ≤ 8 → fc j = -1) ∧ (∀ j, ho j = 0) ∧
    ∀ (n : Nat) (post : SX → Prop), d < n → (∃ n233 : Nat, wX_init_233 post nl lb ld cc cs ct (nI oN) (nI tN) (nI dN) oc (hs_fr s) (hs_qd s) n233 0 lv pa ch rg hd ho fc lc (hs_kh s) (hs_kf s) (hs_nx s) (hs_cv s) (hs_fw s) (hs_cf s) mk (hs_qu s)) → wX_init_211 post n (nI i) nl lb ld cc cs ct (nI oN) (nI tN) (nI dN) oc (hs_fr s) (hs_qd s) lv pa ch rg hd (hs_ho s) (hs_fc s) (hs_lc s) (hs_kh s) (hs_kf s) (hs_nx s) (hs_cv s) (hs_fw s) (hs_cf s) mk (hs_qu s) := by
  intro d
  induction d with
  | zero =>
    intro i s hi h h0
    refine ⟨hs_fc s, hs_lc s, hs_ho s, fun j hj => h j (by omega), h0, fun n post hn H => ?_⟩
    obtain ⟨n, rfl⟩ : ∃ n', n = n' + 1 := ⟨n - 1, by omega⟩
    exact br_t (nI_lt (a := 8) (by omega) (by omega)) H
  | succ d ih =>
    intro i s hi h h0
    obtain ⟨fc, lc, ho, a, b, W⟩ := ih (i + 1) (hs_fr s, hs_qd s, upd (hs_ho s) i 0, upd (hs_fc s) i (-1), upd (hs_lc s) i (-1), hs_kh s, hs_kf s, hs_nx s, hs_cv s, hs_fw s, hs_cf s, hs_qu s) (by omega) (fun j hj => by
      show upd (hs_fc s) i (-1) j = _
      by_cases e : j = i
      · subst e; exact pk_us
      · rw [pk_un e]; exact h j (by omega)) (fun j => by
      show upd (hs_ho s) i 0 j = _
      by_cases e : j = i
      · subst e; exact pk_us
      · rw [pk_un e]; exact h0 j)
    refine ⟨fc, lc, ho, a, b, fun n post hn H => ?_⟩
    obtain ⟨n, rfl⟩ : ∃ n', n = n' + 1 := ⟨n - 1, by omega⟩
    refine br_f (nI_nlt (b := i) (a := 8) (by omega) (by omega)) ?_
    refine x_clr (s := s) (h := i) (by omega) ?_
    exact nm_r (nI_1 i) (W n post (by omega) H)
end
theorem r_init {oN tN dN : Nat} (o1 : 8 ≤ oN) (o2 : oN ≤ 24) (t1 : 2 ≤ tN) (t2 : tN ≤ 8) (d1 : 1 ≤ dN) (d2 : dN ≤ 3) {fc lc ho nx rg : Nat → Int32} (hf : ∀ j, j ≤ 8 → fc j = -1) (h0 : ∀ j, ho j = 0)
    (hn : ∀ k, k < 128 → nx k = if k + 1 < 128 then nI (k + 1) else -1) (hr : ∀ j, j < 4 → rg j = -1) :
    hh_R0 oN tN dN 0 (upd (fun _ => 0) 0 1) (upd (fun _ => 0) 0 (-1)) (fun _ => 0) rg (upd (fun _ => 0) 8 4) (fun _ => 0) (0, 0, ho, fc, lc, (fun _ => 0), (fun _ => 0), nx, (fun _ => 0), (fun _ => 0), (fun _ => 0), (fun _ => 0))
      (fun _ => False, fun _ => 0, fun _ => 0, fun _ => 0) (fun _ => 0) (fun _ => 0) (fun _ => 0) (fun _ => 0) (fun _ => 0) (fun _ => 0) := by
  have l0 : ∀ t, upd (fun _ => 0) 0 1 t ≠ 0 → t = 0 := fun t h => by
    refine Classical.byContradiction fun z => ?_
    rw [pk_un z] at h
    exact h rfl
  have noth : ∀ o, ¬ hh_th (fun _ => 0) o := fun o h => h rfl
  refine ⟨⟨t1, t2, d1, d2, by rw [pk_us]; decide, rfl, pk_us, pk_us, ?_, ?_⟩, ?_, o1, o2, fun o h => absurd rfl h, ?_, ⟨cs_init hf hn, ?_, ?_, ?_, ?_⟩, ?_, fun _ => (by decide : (0 : Nat) < 25), fun _ => (by decide : (0 : Nat) < 25), fun _ _ => rfl⟩
  · intro t h
    have e := l0 t h
    subst e
    refine ⟨by omega, ?_, Nat.zero_le _⟩
    rw [pk_un (by decide)]
    rfl
  · intro t h z
    exact absurd (l0 t h) z
  · intro t h
    have e := l0 t h
    subst e
    rw [cn_z 8 (fun i _ hi => ?_)]
    · rfl
    · have e := l0 i hi.1
      have h2 := hi.2
      rw [e, pk_us] at h2
      exact hh_mn (n := 0) (by omega) h2.symm
  · rw [cn_z 25 (fun i _ => noth i)]
    rfl
  · refine ⟨fun _ => 0, fun c u => u.elim, fun c u => u.elim, fun o h => absurd h (noth o), fun c c' u => u.elim⟩
  · intro o f h; exact absurd h (noth o)
  · intro o h; exact absurd h (noth o)
  · intro j hj
    rw [cn_z 25 (fun i _ hi => noth i hi.1)]
    exact h0 j
  · intro t r h hr4
    have e := l0 t h
    subst e
    rw [hr _ (by omega)]
    exact Or.inl ⟨rfl, rfl⟩
theorem i_vc0 (k0 : Int32) (k1 : Int32) (k2 : Int32) : wpX_init (fun u => wpY_init (fun v => i_Rel 3 u v) k0 k1 k2) k0 k1 k2 := by
  obtain ⟨oN, o1, o2, A⟩ := hh_clamp k0 8 24 (by omega) (by omega)
  obtain ⟨tN, t1, t2, B⟩ := hh_clamp k1 2 8 (by omega) (by omega)
  obtain ⟨dN, d1, d2, C⟩ := hh_clamp k2 1 3 (by omega) (by omega)
  unfold wpX_init
  refine x_clamp A ?_
  refine x_clamp B ?_
  refine x_clamp C ?_
  obtain ⟨fc, lc, ho, hf, h0, W1⟩ := x_i211 (nl := -1) (lb := 8) (ld := 4) (cc := 4) (cs := 2) (ct := 128) (oc := 0) (oN := oN) (tN := tN) (dN := dN) (lv := (fun _ => 0)) (pa := (fun _ => 0)) (ch := (fun _ => 0)) (rg := (fun _ => 0)) (hd := (fun _ => 0)) (mk := (fun _ => 0)) 9 0 (0, 0, (fun _ => 0), (fun _ => 0), (fun _ => 0), (fun _ => 0), (fun _ => 0), (fun _ => 0), (fun _ => 0), (fun _ => 0), (fun _ => 0), (fun _ => 0)) (by omega) (fun j hj => by omega) (fun _ => rfl)
  obtain ⟨nx, hn, W2⟩ := x_i233 (nl := -1) (lb := 8) (ld := 4) (cc := 4) (cs := 2) (ct := 128) (oc := 0) (oN := oN) (tN := tN) (dN := dN) (lv := (fun _ => 0)) (pa := (fun _ => 0)) (ch := (fun _ => 0)) (rg := (fun _ => 0)) (hd := (fun _ => 0)) (mk := (fun _ => 0)) 128 0 (0, 0, ho, fc, lc, (fun _ => 0), (fun _ => 0), (fun _ => 0), (fun _ => 0), (fun _ => 0), (fun _ => 0), (fun _ => 0)) (by omega) (fun j hj => by omega)
  obtain ⟨rg, hr, W3⟩ := x_i302 (nl := -1) (lb := 8) (ld := 4) (cc := 4) (cs := 2) (ct := 128) (oc := 0) (oN := oN) (tN := tN) (dN := dN) (lv := upd (fun _ => 0) 0 1) (pa := upd (fun _ => 0) 0 (-1)) (ch := (fun _ => 0)) (hd := upd (fun _ => 0) 8 4) (mk := (fun _ => 0)) (s := (0, 0, ho, fc, lc, (fun _ => 0), (fun _ => 0), nx, (fun _ => 0), (fun _ => 0), (fun _ => 0), (fun _ => 0))) 4 0 (fun _ => 0) (by omega) (fun j hj => by omega)
  refine ⟨10, W1 10 _ (by omega) ⟨129, W2 129 _ (by omega) ⟨5, W3 5 _ (by omega) ?_⟩⟩⟩
  refine A (fun z0 => wY_init_92 _ k1 k2 z0 0 0 0 (fun _ => 0) (fun _ => 0) (fun _ => 0) (fun _ => 0) (fun _ => 0) (fun _ => 0) (fun _ => 0) (fun _ => 0)) ?_
  refine B (fun z0 => wY_init_117 _ k2 z0 (nI oN) 0 0 (fun _ => 0) (fun _ => 0) (fun _ => 0) (fun _ => 0) (fun _ => 0) (fun _ => 0) (fun _ => 0) (fun _ => 0)) ?_
  refine C (fun z0 => wY_init_140 _ z0 (nI oN) (nI tN) 0 (fun _ => 0) (fun _ => 0) (fun _ => 0) (fun _ => 0) (fun _ => 0) (fun _ => 0) (fun _ => 0) (fun _ => 0)) ?_
  refine nm_r (e' := upd (fun _ => 0) 0 1) (by rw [hh_b1]) (nm_e ?_)
  exact rel_mk (bm := (fun _ => 0)) (r_init o1 o2 t1 t2 d1 d2 hf h0 hn hr)
end
section
/-! what is owed, from the outcomes -/
theorem i_vc_fork {k : Nat} {u : SX} {v : SY} (I : i_Rel k u v) (hk : k + 5 ≤ 2563) (v1 : Int32) : wpX_fork (fun r u' => wpY_fork (fun r' v' => r' = r ∧ i_Rel (k + 5) u' v') v v1) u v1 := by
  refine rel_el (P := fun u v => wpX_fork (fun r u' => wpY_fork (fun r' v' => r' = r ∧ i_Rel (k + 5) u' v') v v1) u v1) ?_ I
  intro nl lb ld cc cs ct oc oN tN dN lv pa ch rg hd mk s g dp bt bv bm ow fd rgN R
  obtain ⟨r, u, v, Q, X, Y⟩ := m_fork (bm := bm) (nl := nl) (lb := lb) (ld := ld) (cc := cc) (cs := cs) (ct := ct) (oN := oN) (tN := tN) (dN := dN) (oc := oc) (lv := lv) (pa := pa) (ch := ch) (rg := rg) (hd := hd) (mk := mk) R v1
  exact X _ (Y _ ⟨rfl, Q⟩)
theorem i_vc_join {k : Nat} {u : SX} {v : SY} (I : i_Rel k u v) (hk : k + 5 ≤ 2563) (v1 : Int32) (v2 : Int32) : wpX_join (fun r u' => wpY_join (fun r' v' => r' = r ∧ i_Rel (k + 5) u' v') v v1 v2) u v1 v2 := by
  refine rel_el (P := fun u v => wpX_join (fun r u' => wpY_join (fun r' v' => r' = r ∧ i_Rel (k + 5) u' v') v v1 v2) u v1 v2) ?_ I
  intro nl lb ld cc cs ct oc oN tN dN lv pa ch rg hd mk s g dp bt bv bm ow fd rgN R
  obtain ⟨r, u, v, Q, X, Y⟩ := m_join (bm := bm) (nl := nl) (lb := lb) (ld := ld) (cc := cc) (cs := cs) (ct := ct) (oN := oN) (tN := tN) (dN := dN) (oc := oc) (lv := lv) (pa := pa) (ch := ch) (rg := rg) (hd := hd) (mk := mk) R v1 v2
  exact X _ (Y _ ⟨rfl, Q⟩)
theorem i_vc_alloc {k : Nat} {u : SX} {v : SY} (I : i_Rel k u v) (hk : k + 5 ≤ 2563) (v1 : Int32) (v2 : Int32) (v3 : Int32) : wpX_alloc (fun r u' => wpY_alloc (fun r' v' => r' = r ∧ i_Rel (k + 5) u' v') v v1 v2 v3) u v1 v2 v3 := by
  refine rel_el (P := fun u v => wpX_alloc (fun r u' => wpY_alloc (fun r' v' => r' = r ∧ i_Rel (k + 5) u' v') v v1 v2 v3) u v1 v2 v3) ?_ I
  intro nl lb ld cc cs ct oc oN tN dN lv pa ch rg hd mk s g dp bt bv bm ow fd rgN R
  obtain ⟨r, u, v, Q, X, Y⟩ := m_alloc (bm := bm) (nl := nl) (lb := lb) (ld := ld) (cc := cc) (cs := cs) (ct := ct) (oN := oN) (tN := tN) (dN := dN) (oc := oc) (lv := lv) (pa := pa) (ch := ch) (rg := rg) (hd := hd) (mk := mk) R v1 v2 v3
  exact X _ (Y _ ⟨rfl, Q⟩)
theorem i_vc_store {k : Nat} {u : SX} {v : SY} (I : i_Rel k u v) (hk : k + 5 ≤ 2563) (v1 : Int32) (v2 : Int32) (v3 : Int32) (v4 : Int32) : wpX_store (fun r u' => wpY_store (fun r' v' => r' = r ∧ i_Rel (k + 5) u' v') v v1 v2 v3 v4) u v1 v2 v3 v4 := by
  refine rel_el (P := fun u v => wpX_store (fun r u' => wpY_store (fun r' v' => r' = r ∧ i_Rel (k + 5) u' v') v v1 v2 v3 v4) u v1 v2 v3 v4) ?_ I
  intro nl lb ld cc cs ct oc oN tN dN lv pa ch rg hd mk s g dp bt bv bm ow fd rgN R
  obtain ⟨r, u, v, Q, X, Y⟩ := m_store (bm := bm) (nl := nl) (lb := lb) (ld := ld) (cc := cc) (cs := cs) (ct := ct) (oN := oN) (tN := tN) (dN := dN) (oc := oc) (lv := lv) (pa := pa) (ch := ch) (rg := rg) (hd := hd) (mk := mk) R v1 v2 v3 v4
  exact X _ (Y _ ⟨rfl, Q⟩)
theorem i_vc_load {k : Nat} {u : SX} {v : SY} (I : i_Rel k u v) (hk : k + 5 ≤ 2563) (v1 : Int32) (v2 : Int32) (v3 : Int32) (v4 : Int32) : wpX_load (fun r u' => wpY_load (fun r' v' => r' = r ∧ i_Rel (k + 5) u' v') v v1 v2 v3 v4) u v1 v2 v3 v4 := by
  refine rel_el (P := fun u v => wpX_load (fun r u' => wpY_load (fun r' v' => r' = r ∧ i_Rel (k + 5) u' v') v v1 v2 v3 v4) u v1 v2 v3 v4) ?_ I
  intro nl lb ld cc cs ct oc oN tN dN lv pa ch rg hd mk s g dp bt bv bm ow fd rgN R
  obtain ⟨r, u, v, Q, X, Y⟩ := m_load (bm := bm) (nl := nl) (lb := lb) (ld := ld) (cc := cc) (cs := cs) (ct := ct) (oN := oN) (tN := tN) (dN := dN) (oc := oc) (lv := lv) (pa := pa) (ch := ch) (rg := rg) (hd := hd) (mk := mk) R v1 v2 v3 v4
  exact X _ (Y _ ⟨rfl, Q⟩)
theorem i_vc_move {k : Nat} {u : SX} {v : SY} (I : i_Rel k u v) (hk : k + 5 ≤ 2563) (v1 : Int32) (v2 : Int32) (v3 : Int32) : wpX_move (fun r u' => wpY_move (fun r' v' => r' = r ∧ i_Rel (k + 5) u' v') v v1 v2 v3) u v1 v2 v3 := by
  refine rel_el (P := fun u v => wpX_move (fun r u' => wpY_move (fun r' v' => r' = r ∧ i_Rel (k + 5) u' v') v v1 v2 v3) u v1 v2 v3) ?_ I
  intro nl lb ld cc cs ct oc oN tN dN lv pa ch rg hd mk s g dp bt bv bm ow fd rgN R
  obtain ⟨r, u, v, Q, X, Y⟩ := m_move (bm := bm) (nl := nl) (lb := lb) (ld := ld) (cc := cc) (cs := cs) (ct := ct) (oN := oN) (tN := tN) (dN := dN) (oc := oc) (lv := lv) (pa := pa) (ch := ch) (rg := rg) (hd := hd) (mk := mk) R v1 v2 v3
  exact X _ (Y _ ⟨rfl, Q⟩)
theorem i_vc_drop {k : Nat} {u : SX} {v : SY} (I : i_Rel k u v) (hk : k + 5 ≤ 2563) (v1 : Int32) (v2 : Int32) : wpX_drop (fun r u' => wpY_drop (fun r' v' => r' = r ∧ i_Rel (k + 5) u' v') v v1 v2) u v1 v2 := by
  refine rel_el (P := fun u v => wpX_drop (fun r u' => wpY_drop (fun r' v' => r' = r ∧ i_Rel (k + 5) u' v') v v1 v2) u v1 v2) ?_ I
  intro nl lb ld cc cs ct oc oN tN dN lv pa ch rg hd mk s g dp bt bv bm ow fd rgN R
  obtain ⟨r, u, v, Q, X, Y⟩ := m_drop (bm := bm) (nl := nl) (lb := lb) (ld := ld) (cc := cc) (cs := cs) (ct := ct) (oN := oN) (tN := tN) (dN := dN) (oc := oc) (lv := lv) (pa := pa) (ch := ch) (rg := rg) (hd := hd) (mk := mk) R v1 v2
  exact X _ (Y _ ⟨rfl, Q⟩)
theorem i_vc_setValue {k : Nat} {u : SX} {v : SY} (I : i_Rel k u v) (hk : k + 5 ≤ 2563) (v1 : Int32) (v2 : Int32) (v3 : Int32) : wpX_setValue (fun r u' => wpY_setValue (fun r' v' => r' = r ∧ i_Rel (k + 5) u' v') v v1 v2 v3) u v1 v2 v3 := by
  refine rel_el (P := fun u v => wpX_setValue (fun r u' => wpY_setValue (fun r' v' => r' = r ∧ i_Rel (k + 5) u' v') v v1 v2 v3) u v1 v2 v3) ?_ I
  intro nl lb ld cc cs ct oc oN tN dN lv pa ch rg hd mk s g dp bt bv bm ow fd rgN R
  obtain ⟨r, u, v, Q, X, Y⟩ := m_setValue (bm := bm) (nl := nl) (lb := lb) (ld := ld) (cc := cc) (cs := cs) (ct := ct) (oN := oN) (tN := tN) (dN := dN) (oc := oc) (lv := lv) (pa := pa) (ch := ch) (rg := rg) (hd := hd) (mk := mk) R v1 v2 v3
  exact X _ (Y _ ⟨rfl, Q⟩)
theorem i_vc_collect {k : Nat} {u : SX} {v : SY} (I : i_Rel k u v) (hk : k + 5 ≤ 2563) (v1 : Int32) : wpX_collect (fun r u' => wpY_collect (fun r' v' => r' = r ∧ i_Rel (k + 5) u' v') v v1) u v1 := by
  refine rel_el (P := fun u v => wpX_collect (fun r u' => wpY_collect (fun r' v' => r' = r ∧ i_Rel (k + 5) u' v') v v1) u v1) ?_ I
  intro nl lb ld cc cs ct oc oN tN dN lv pa ch rg hd mk s g dp bt bv bm ow fd rgN R
  obtain ⟨r, u, v, Q, X, Y⟩ := m_collect (bm := bm) (nl := nl) (lb := lb) (ld := ld) (cc := cc) (cs := cs) (ct := ct) (oN := oN) (tN := tN) (dN := dN) (oc := oc) (lv := lv) (pa := pa) (ch := ch) (rg := rg) (hd := hd) (mk := mk) R v1
  exact X _ (Y _ ⟨rfl, Q⟩)
theorem i_vc_valueAt {k : Nat} {u : SX} {v : SY} (I : i_Rel k u v) (hk : k + 5 ≤ 2563) (v1 : Int32) (v2 : Int32) (v3 : Int32) (v4 : Int32) : wpX_valueAt (fun r => wpY_valueAt (fun r' => r' = r ∧ i_Rel (k + 5) u v) v v1 v2 v3 v4) u v1 v2 v3 v4 := by
  have I' := I
  revert I'
  refine rel_el (P := fun u v => i_Rel k u v → wpX_valueAt (fun r => wpY_valueAt (fun r' => r' = r ∧ i_Rel (k + 5) u v) v v1 v2 v3 v4) u v1 v2 v3 v4) ?_ I
  intro nl lb ld cc cs ct oc oN tN dN lv pa ch rg hd mk s g dp bt bv bm ow fd rgN R I'
  obtain ⟨r, X, Y⟩ := m_valueAt (bm := bm) (nl := nl) (lb := lb) (ld := ld) (cc := cc) (cs := cs) (ct := ct) (oN := oN) (tN := tN) (dN := dN) (oc := oc) (lv := lv) (pa := pa) (ch := ch) (rg := rg) (hd := hd) (mk := mk) R v1 v2 v3 v4
  exact X _ (Y _ ⟨rfl, I'⟩)
theorem i_vc_ownerAt {k : Nat} {u : SX} {v : SY} (I : i_Rel k u v) (hk : k + 5 ≤ 2563) (v1 : Int32) (v2 : Int32) (v3 : Int32) (v4 : Int32) : wpX_ownerAt (fun r => wpY_ownerAt (fun r' => r' = r ∧ i_Rel (k + 5) u v) v v1 v2 v3 v4) u v1 v2 v3 v4 := by
  have I' := I
  revert I'
  refine rel_el (P := fun u v => i_Rel k u v → wpX_ownerAt (fun r => wpY_ownerAt (fun r' => r' = r ∧ i_Rel (k + 5) u v) v v1 v2 v3 v4) u v1 v2 v3 v4) ?_ I
  intro nl lb ld cc cs ct oc oN tN dN lv pa ch rg hd mk s g dp bt bv bm ow fd rgN R I'
  obtain ⟨r, X, Y⟩ := m_ownerAt (bm := bm) (nl := nl) (lb := lb) (ld := ld) (cc := cc) (cs := cs) (ct := ct) (oN := oN) (tN := tN) (dN := dN) (oc := oc) (lv := lv) (pa := pa) (ch := ch) (rg := rg) (hd := hd) (mk := mk) R v1 v2 v3 v4
  exact X _ (Y _ ⟨rfl, I'⟩)
theorem i_vc_same {k : Nat} {u : SX} {v : SY} (I : i_Rel k u v) (hk : k + 5 ≤ 2563) (v1 : Int32) (v2 : Int32) (v3 : Int32) (v4 : Int32) : wpX_same (fun r => wpY_same (fun r' => r' = r ∧ i_Rel (k + 5) u v) v v1 v2 v3 v4) u v1 v2 v3 v4 := by
  have I' := I
  revert I'
  refine rel_el (P := fun u v => i_Rel k u v → wpX_same (fun r => wpY_same (fun r' => r' = r ∧ i_Rel (k + 5) u v) v v1 v2 v3 v4) u v1 v2 v3 v4) ?_ I
  intro nl lb ld cc cs ct oc oN tN dN lv pa ch rg hd mk s g dp bt bv bm ow fd rgN R I'
  obtain ⟨r, X, Y⟩ := m_same (bm := bm) (nl := nl) (lb := lb) (ld := ld) (cc := cc) (cs := cs) (ct := ct) (oN := oN) (tN := tN) (dN := dN) (oc := oc) (lv := lv) (pa := pa) (ch := ch) (rg := rg) (hd := hd) (mk := mk) R v1 v2 v3 v4
  exact X _ (Y _ ⟨rfl, I'⟩)
theorem i_vc_heapSize {k : Nat} {u : SX} {v : SY} (I : i_Rel k u v) (hk : k + 5 ≤ 2563) (v1 : Int32) : wpX_heapSize (fun r => wpY_heapSize (fun r' => r' = r ∧ i_Rel (k + 5) u v) v v1) u v1 := by
  have I' := I
  revert I'
  refine rel_el (P := fun u v => i_Rel k u v → wpX_heapSize (fun r => wpY_heapSize (fun r' => r' = r ∧ i_Rel (k + 5) u v) v v1) u v1) ?_ I
  intro nl lb ld cc cs ct oc oN tN dN lv pa ch rg hd mk s g dp bt bv bm ow fd rgN R I'
  obtain ⟨r, X, Y⟩ := m_heapSize (bm := bm) (nl := nl) (lb := lb) (ld := ld) (cc := cc) (cs := cs) (ct := ct) (oN := oN) (tN := tN) (dN := dN) (oc := oc) (lv := lv) (pa := pa) (ch := ch) (rg := rg) (hd := hd) (mk := mk) R v1
  exact X _ (Y _ ⟨rfl, I'⟩)
theorem i_vc_liveCount {k : Nat} {u : SX} {v : SY} (I : i_Rel k u v) (hk : k + 5 ≤ 2563) (v1 : Int32) : wpX_liveCount (fun r u' => wpY_liveCount (fun r' v' => r' = r ∧ i_Rel (k + 5) u' v') v v1) u v1 := by
  refine rel_el (P := fun u v => wpX_liveCount (fun r u' => wpY_liveCount (fun r' v' => r' = r ∧ i_Rel (k + 5) u' v') v v1) u v1) ?_ I
  intro nl lb ld cc cs ct oc oN tN dN lv pa ch rg hd mk s g dp bt bv bm ow fd rgN R
  obtain ⟨r, u, v, Q, X, Y⟩ := m_liveCount (bm := bm) (nl := nl) (lb := lb) (ld := ld) (cc := cc) (cs := cs) (ct := ct) (oN := oN) (tN := tN) (dN := dN) (oc := oc) (lv := lv) (pa := pa) (ch := ch) (rg := rg) (hd := hd) (mk := mk) R v1
  exact X _ (Y _ ⟨rfl, Q⟩)
theorem i_vc_parentOf {k : Nat} {u : SX} {v : SY} (I : i_Rel k u v) (hk : k + 5 ≤ 2563) (v1 : Int32) : wpX_parentOf (fun r => wpY_parentOf (fun r' => r' = r ∧ i_Rel (k + 5) u v) v v1) u v1 := by
  have I' := I
  revert I'
  refine rel_el (P := fun u v => i_Rel k u v → wpX_parentOf (fun r => wpY_parentOf (fun r' => r' = r ∧ i_Rel (k + 5) u v) v v1) u v1) ?_ I
  intro nl lb ld cc cs ct oc oN tN dN lv pa ch rg hd mk s g dp bt bv bm ow fd rgN R I'
  obtain ⟨r, X, Y⟩ := m_parentOf (bm := bm) (nl := nl) (lb := lb) (ld := ld) (cc := cc) (cs := cs) (ct := ct) (oN := oN) (tN := tN) (dN := dN) (oc := oc) (lv := lv) (pa := pa) (ch := ch) (rg := rg) (hd := hd) (mk := mk) R v1
  exact X _ (Y _ ⟨rfl, I'⟩)
end
