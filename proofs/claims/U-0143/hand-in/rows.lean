section
/-! rows of kit/rows/PURE-ROWS (starting text): stores, nI arithmetic, branches by naturals, masks -/
theorem pk_us {f : Nat → Int32} {k : Nat} {x : Int32} : upd f k x k = x := if_pos rfl
theorem pk_un {f : Nat → Int32} {k j : Nat} {x : Int32} (h : j ≠ k) : upd f k x j = f j := if_neg h
theorem pk_sub {a b : Nat} (h : b ≤ a) : nI a - nI b = nI (a - b) := by
  obtain ⟨c, rfl⟩ : ∃ c, a = c + b := ⟨a - b, by omega⟩
  rw [← nI_add, Int32.add_sub_cancel, Nat.add_sub_cancel]
theorem pk_m1 (n : Nat) : nI (n + 1) + (-1) = nI n := by
  rw [← nI_1, Int32.add_assoc, show (1 : Int32) + (-1) = 0 from rfl, Int32.add_zero]
theorem pk_mul (a b : Nat) : nI a * nI b = nI (a * b) := (Int32.ofNat_mul a b).symm
theorem pk_ix (x : Int32) {n : Nat} (hn : n < 2 ^ 31) : x < 0 ∨ nI n ≤ x ∨ ∃ j : Nat, j < n ∧ x = nI j := by
  by_cases h : x < 0
  · exact Or.inl h
  · obtain ⟨j, hj, rfl⟩ := nI_of h
    by_cases h2 : j < n
    · exact Or.inr (Or.inr ⟨j, h2, rfl⟩)
    · exact Or.inr (Or.inl (nI_le (by omega) hj))
theorem pk_le {x y : Int32} {A B : Prop} (a b : Nat) (f : a ≤ b → A) (g : b < a → B) (hx : x = nI a := by rfl) (hy : y = nI b := by rfl) (ha : a < 2 ^ 31 := by omega) (hb : b < 2 ^ 31 := by omega) : (x ≤ y → A) ∧ (¬ x ≤ y → B) := by
  subst hx hy
  rw [nI_leI ha hb]
  exact ⟨f, fun z => g (by omega)⟩
theorem pk_lt {x y : Int32} {A B : Prop} (a b : Nat) (f : a < b → A) (g : b ≤ a → B) (hx : x = nI a := by rfl) (hy : y = nI b := by rfl) (ha : a < 2 ^ 31 := by omega) (hb : b < 2 ^ 31 := by omega) : (x < y → A) ∧ (¬ x < y → B) := by
  subst hx hy
  rw [nI_ltI ha hb]
  exact ⟨f, fun z => g (by omega)⟩
theorem pk_eq {x y : Int32} {A B : Prop} (a b : Nat) (f : a = b → A) (g : a ≠ b → B) (hx : x = nI a := by rfl) (hy : y = nI b := by rfl) (ha : a < 2 ^ 31 := by omega) (hb : b < 2 ^ 31 := by omega) : (x = y → A) ∧ (¬ x = y → B) := by
  subst hx hy
  rw [nI_eq ha hb]
  exact ⟨f, g⟩
theorem pk_in {x : Int32} (n N : Nat) (h : n < N) (hx : x = nI n := by rfl) (hN : N < 2 ^ 31 := by omega) : vp_in x N := by
  subst hx
  exact vp_in_nI h hN
theorem pk_cl {x : Int32} (n : Nat) (hx : x = nI n := by rfl) (h : n < 2 ^ 31 := by omega) : x.toNatClampNeg = n := by
  subst hx
  exact nI_clamp h
theorem pk_tn {n : Nat} (h : n < 2 ^ 32) : (nI n).toBitVec.toNat = n := Nat.mod_eq_of_lt h
theorem pk_and (x : Int32) {m : Int32} (k : Nat) (hm : m.toBitVec.toNat = 2 ^ k - 1) : x &&& m = nI (x.toBitVec.toNat % 2 ^ k) := by
  apply Int32.toBitVec_inj.mp
  apply BitVec.eq_of_toNat_eq
  rw [Int32.toBitVec_and, BitVec.toNat_and, hm, Nat.and_two_pow_sub_one_eq_mod]
  show _ = (BitVec.ofNat 32 _).toNat
  rw [BitVec.toNat_ofNat]
  exact (Nat.mod_eq_of_lt (Nat.lt_of_le_of_lt (Nat.mod_le _ _) x.toBitVec.isLt)).symm
theorem pk_andN {n : Nat} (h : n < 2 ^ 32) {m : Int32} (k : Nat) (hm : m.toBitVec.toNat = 2 ^ k - 1) : nI n &&& m = nI (n % 2 ^ k) := by
  rw [pk_and _ k hm, pk_tn h]
theorem pk_andE (x : Int32) {m : Int32} (k : Nat) (hm : m.toBitVec.toNat = 2 ^ k - 1) : ∃ j : Nat, j < 2 ^ k ∧ x &&& m = nI j := ⟨_, Nat.mod_lt _ (Nat.two_pow_pos k), pk_and x k hm⟩
theorem pk_andIn (x : Int32) {m : Int32} (k : Nat) (hm : m.toBitVec.toNat = 2 ^ k - 1) (hk : k ≤ 30) : vp_in (x &&& m) (2 ^ k) := by
  obtain ⟨j, hj, e⟩ := pk_andE x k hm
  rw [e]
  exact vp_in_nI hj (Nat.lt_of_le_of_lt (Nat.pow_le_pow_right (by decide) hk) (by decide))
end
section
/-! The abstract state: k b = (place, copy, belief, stamp, written), m s = (kind, to, block, who, stamp, data), L = entries (block, cache, value). 9999: none -/
abbrev tc_BS : Type := (Nat → Nat) × (Nat → Int32) × (Nat → Nat) × (Nat → Nat) × Int32
abbrev tc_MG : Type := Nat × Nat × Nat × Nat × Nat × Int32
abbrev tc_QL : Type := List (Nat × Nat × Int32)
def tc_f1 {α : Type} (f : Nat → α) (i : Nat) (v : α) : Nat → α := fun j => if j = i then v else f j
theorem tc_f1s {α : Type} (f : Nat → α) (i : Nat) (v : α) : tc_f1 f i v i = v := if_pos rfl
theorem tc_f1n {α : Type} {f : Nat → α} {i j : Nat} {v : α} (h : j ≠ i) : tc_f1 f i v j = f j := if_neg h
theorem tc_f1id {α : Type} (f : Nat → α) (i : Nat) : tc_f1 f i (f i) = f := by
  funext j
  by_cases h : j = i
  · rw [h, tc_f1s]
  · rw [tc_f1n h]
def tc_EMP : tc_MG := (0, 9999, 9999, 9999, 9999, -2)
/-- tokens of the first n at place x -/
def tc_ct (p : Nat → Nat) (x : Nat) : Nat → Nat
  | 0 => 0
  | n + 1 => tc_ct p x n + (if p n = x then 1 else 0)
def tc_mv (p : Nat → Nat) (x y : Nat) : Nat → Nat := fun i => if p i = x then y else p i
theorem tc_mvt {p : Nat → Nat} {x y i : Nat} (h : p i = x) : tc_mv p x y i = y := if_pos h
theorem tc_mvn {p : Nat → Nat} {x y i : Nat} (h : ¬ p i = x) : tc_mv p x y i = p i := if_neg h
def tc_fi (p : Nat → Nat) (d : Nat) : Nat → Nat → Nat
  | 0, _ => 9999
  | f + 1, i => if p i = d then i else tc_fi p d f (i + 1)
def tc_gv (T : Nat) (p : Nat → Nat) (d y : Nat) : Nat → Nat := tc_f1 p (tc_fi p d (T - 1) 1) y
def tc_sB (s n x b : Nat) : tc_BS → tc_BS × tc_MG
  | (p, c, e, t, w) => ((tc_mv p n (8 + s), tc_f1 c n (-2), e, t, w), (3, x, b, 9999, 9999, if p 0 = n then c n else -2))
def tc_tB (s d : Nat) (v : Int32) : tc_BS → tc_BS
  | (p, c, e, t, w) => (tc_mv p (8 + s) d, if v = -2 then c else tc_f1 c d v, e, t, w)
/-- the delivery of message x in slot s to its block's state -/
def tc_dB (T s : Nat) : tc_BS → tc_MG → tc_BS × tc_MG
  | (p, c, e, t, w), (a, d, b, y, st, v) =>
    if a = 3 then
      if e d = 9999 ∨ e d = d then (tc_tB s d v (p, c, e, t, w), tc_EMP) else ((p, c, e, t, w), (3, e d, b, y, st, v))
    else if a = 4 then
      if st ≤ t d then ((p, c, e, t, w), tc_EMP)
      else if y = 9999 ∨ y = d ∨ tc_ct p d T = 0 then ((p, c, tc_f1 e d y, tc_f1 t d st, w), tc_EMP)
      else tc_sB s d y b (p, c, tc_f1 e d y, tc_f1 t d st, w)
    else if a = 1 then
      if e d = 9999 ∧ p 0 = d then
        if 2 ≤ tc_ct p d T then ((tc_gv T p d (8 + s), c, e, t, w), (3, y, b, 9999, 9999, c d))
        else tc_sB s d y b (p, c, e, t, w)
      else ((p, c, e, t, w), tc_EMP)
    else if a = 2 then
      if e d = 9999 ∧ 0 < tc_ct p d T then tc_sB s d y b (p, c, e, t, w) else ((p, c, e, t, w), tc_EMP)
    else ((p, c, e, t, w), (a, d, b, y, st, v))
def tc_dk (T s : Nat) (k : Nat → tc_BS) (m : Nat → tc_MG) : Nat → tc_BS := tc_f1 k (m s).2.2.1 (tc_dB T s (k (m s).2.2.1) (m s)).1
def tc_dm (T s : Nat) (k : Nat → tc_BS) (m : Nat → tc_MG) : Nat → tc_MG := tc_f1 m s (tc_dB T s (k (m s).2.2.1) (m s)).2
/-- the first cache of block b in the queue -/
def tc_hd (b : Nat) : tc_QL → Nat
  | [] => 9999
  | x :: l => if x.1 = b then x.2.1 else tc_hd b l
def tc_rm (b : Nat) : tc_QL → tc_QL
  | [] => []
  | x :: l => if x.1 = b then l else x :: tc_rm b l
def tc_qs (b : Nat) (L : tc_QL) : tc_QL := L.filter (fun x => x.1 = b)
/-! counts -/
theorem tc_ct_le (p : Nat → Nat) (x : Nat) : ∀ n, tc_ct p x n ≤ n
  | 0 => Nat.le_refl 0
  | n + 1 => by
    have h := tc_ct_le p x n
    simp only [tc_ct]
    split <;> omega
theorem tc_ct_cg {p q : Nat → Nat} (x : Nat) : ∀ n, (∀ i, i < n → p i = q i) → tc_ct p x n = tc_ct q x n
  | 0, _ => rfl
  | n + 1, h => by
    simp only [tc_ct]
    rw [tc_ct_cg x n (fun i hi => h i (by omega)), h n (by omega)]
theorem tc_ct_zero {p : Nat → Nat} {x : Nat} : ∀ n, (∀ i, i < n → p i ≠ x) → tc_ct p x n = 0
  | 0, _ => rfl
  | n + 1, h => by
    simp only [tc_ct]
    rw [tc_ct_zero n (fun i hi => h i (by omega)), if_neg (h n (by omega))]
theorem tc_ct_all {p : Nat → Nat} {x : Nat} : ∀ n, (∀ i, i < n → p i = x) → tc_ct p x n = n
  | 0, _ => rfl
  | n + 1, h => by
    simp only [tc_ct]
    rw [tc_ct_all n (fun i hi => h i (by omega)), if_pos (h n (by omega))]
theorem tc_ct_pos {p : Nat → Nat} {x i : Nat} : ∀ n, i < n → p i = x → 0 < tc_ct p x n
  | 0, h, _ => by omega
  | n + 1, h, e => by
    simp only [tc_ct]
    by_cases hi : i = n
    · rw [← hi, if_pos e]; omega
    · have := tc_ct_pos n (by omega) e
      omega
theorem tc_ct_ex {p : Nat → Nat} {x : Nat} : ∀ n, 0 < tc_ct p x n → ∃ i, i < n ∧ p i = x
  | 0, h => by simp only [tc_ct] at h; omega
  | n + 1, h => by
    simp only [tc_ct] at h
    by_cases hi : p n = x
    · exact ⟨n, by omega, hi⟩
    · rw [if_neg hi] at h
      obtain ⟨i, h1, h2⟩ := tc_ct_ex n (by omega)
      exact ⟨i, by omega, h2⟩
theorem tc_ct_mvf {p : Nat → Nat} {x y : Nat} (h : x ≠ y) (n : Nat) : tc_ct (tc_mv p x y) x n = 0 :=
  tc_ct_zero n fun i _ e => by
    by_cases h1 : p i = x
    · rw [tc_mvt h1] at e; omega
    · rw [tc_mvn h1] at e; exact h1 e
theorem tc_ct_mvt {p : Nat → Nat} {x y : Nat} (h : x ≠ y) : ∀ n, tc_ct (tc_mv p x y) y n = tc_ct p x n + tc_ct p y n
  | 0 => rfl
  | n + 1 => by
    simp only [tc_ct]
    rw [tc_ct_mvt h n]
    by_cases h1 : p n = x
    · rw [tc_mvt h1, if_pos rfl, if_pos h1, if_neg (by omega)]; omega
    · rw [tc_mvn h1, if_neg h1]; omega
theorem tc_ct_mvn {p : Nat → Nat} {x y z : Nat} (h1 : z ≠ x) (h2 : z ≠ y) : ∀ n, tc_ct (tc_mv p x y) z n = tc_ct p z n
  | 0 => rfl
  | n + 1 => by
    simp only [tc_ct]
    rw [tc_ct_mvn h1 h2 n]
    by_cases h3 : p n = x
    · rw [tc_mvt h3, if_neg (by omega), if_neg (by omega)]
    · rw [tc_mvn h3]
theorem tc_ct_f1n {p : Nat → Nat} {i y z : Nat} (h1 : p i ≠ z) (h2 : y ≠ z) : ∀ n, tc_ct (tc_f1 p i y) z n = tc_ct p z n
  | 0 => rfl
  | n + 1 => by
    simp only [tc_ct]
    rw [tc_ct_f1n h1 h2 n]
    by_cases h3 : n = i
    · rw [h3, tc_f1s, if_neg h2, if_neg h1]
    · rw [tc_f1n h3]
theorem tc_ct_f1o {p : Nat → Nat} {i y : Nat} : ∀ n, n ≤ i → ∀ z, tc_ct (tc_f1 p i y) z n = tc_ct p z n
  | 0, _, _ => rfl
  | n + 1, h, z => by
    simp only [tc_ct]
    rw [tc_ct_f1o n (by omega) z, tc_f1n (by omega)]
theorem tc_ct_f1d {p : Nat → Nat} {i y : Nat} (h : p i ≠ y) : ∀ n, i < n → tc_ct (tc_f1 p i y) (p i) n + 1 = tc_ct p (p i) n
  | 0, hi => by omega
  | n + 1, hi => by
    simp only [tc_ct]
    by_cases h3 : n = i
    · rw [h3, tc_f1s, tc_ct_f1o i (Nat.le_refl i), if_neg (by omega), if_pos rfl]
    · have := tc_ct_f1d h n (by omega)
      rw [tc_f1n h3]; omega
theorem tc_ct_f1u {p : Nat → Nat} {i y : Nat} (h : p i ≠ y) : ∀ n, i < n → tc_ct (tc_f1 p i y) y n = tc_ct p y n + 1
  | 0, hi => by omega
  | n + 1, hi => by
    simp only [tc_ct]
    by_cases h3 : n = i
    · rw [h3, tc_f1s, tc_ct_f1o i (Nat.le_refl i), if_pos rfl, if_neg h]
    · have := tc_ct_f1u h n (by omega)
      rw [tc_f1n h3]; omega
/-- the given token: there is one that is no owner -/
theorem tc_fi_ok {p : Nat → Nat} {d : Nat} : ∀ f i, (∃ j, i ≤ j ∧ j < i + f ∧ p j = d) → i ≤ tc_fi p d f i ∧ tc_fi p d f i < i + f ∧ p (tc_fi p d f i) = d
  | 0, i, h => by obtain ⟨j, h1, h2, _⟩ := h; omega
  | f + 1, i, h => by
    simp only [tc_fi]
    by_cases hi : p i = d
    · rw [if_pos hi]; exact ⟨by omega, by omega, hi⟩
    · rw [if_neg hi]
      obtain ⟨j, h1, h2, h3⟩ := h
      have hj : j ≠ i := fun e => hi (by rw [← e]; exact h3)
      have := tc_fi_ok (p := p) (d := d) f (i + 1) ⟨j, by omega, by omega, h3⟩
      exact ⟨by omega, by omega, this.2.2⟩
theorem tc_ct2 {p : Nat → Nat} {x : Nat} : ∀ n, 2 ≤ tc_ct p x n → ∃ j, 1 ≤ j ∧ j < n ∧ p j = x
  | 0, h => by simp only [tc_ct] at h; omega
  | n + 1, h => by
    simp only [tc_ct] at h
    by_cases hn : p n = x
    · by_cases h0 : n = 0
      · subst h0
        simp only [tc_ct] at h
        split at h <;> omega
      · exact ⟨n, by omega, by omega, hn⟩
    · rw [if_neg hn] at h
      obtain ⟨j, h1, h2, h3⟩ := tc_ct2 n (by omega)
      exact ⟨j, h1, by omega, h3⟩
theorem tc_gv_ok {T : Nat} {p : Nat → Nat} {d : Nat} (h : 2 ≤ tc_ct p d T) : ∃ i, 1 ≤ i ∧ i < T ∧ p i = d ∧ tc_fi p d (T - 1) 1 = i := by
  obtain ⟨j, h1, h2, h3⟩ := tc_ct2 T h
  have := tc_fi_ok (p := p) (d := d) (T - 1) 1 ⟨j, h1, by omega, h3⟩
  exact ⟨_, this.1, by omega, this.2.2, rfl⟩
end
section
/-! The invariant and that a delivery keeps it -/
def tc_Wp (C T S : Nat) (m : Nat → tc_MG) (b : Nat) (p : Nat → Nat) : Prop := ∀ i, i < T → p i ≤ C ∨ ∃ s, s < S ∧ p i = 8 + s ∧ (m s).1 = 3 ∧ (m s).2.2.1 = b
def tc_Wt (C K : Nat) (t : Nat → Nat) : Prop := (∀ n, n ≤ C → t n ≤ t C) ∧ t C ≤ K
def tc_We (C : Nat) (e : Nat → Nat) : Prop := ∀ n, n ≤ C → e n < C ∨ e n = 9999
def tc_Wc (C T : Nat) (p : Nat → Nat) (c : Nat → Int32) : Prop := ∀ n, n ≤ C → tc_ct p n T = 0 → c n = -2
def tc_WB (C T S K : Nat) (m : Nat → tc_MG) (b : Nat) : tc_BS → Prop
  | (p, c, e, t, _) => tc_Wp C T S m b p ∧ tc_Wt C K t ∧ tc_We C e ∧ tc_Wc C T p c
def tc_WM (C B T : Nat) (k : Nat → tc_BS) (s : Nat) : tc_MG → Prop
  | (a, d, b, y, st, v) => (a, d, b, y, st, v) = tc_EMP ∨ (b < B ∧ d ≤ C ∧
    (((a = 1 ∨ a = 2) ∧ y < C ∧ st = 9999 ∧ v = -2)
    ∨ (a = 3 ∧ y = 9999 ∧ st = 9999 ∧ 0 < tc_ct (k b).1 (8 + s) T)
    ∨ (a = 4 ∧ d < C ∧ (y < C ∨ y = 9999) ∧ st ≤ (k b).2.2.2.1 C ∧ v = -2)))
def tc_P1 (S : Nat) (m : Nat → tc_MG) (h b tC : Nat) : Prop := ∀ s, s < S → (m s).1 = 4 → (m s).2.2.1 = b → (m s).2.2.2.2.1 = tC → (m s).2.2.2.1 = h
def tc_P2 (C T h : Nat) (p e t : Nat → Nat) : Prop := ∀ n, n ≤ C → t n = t C → e n = h ∧ (h ≠ 9999 → n ≠ h → tc_ct p n T = 0)
def tc_P3 (C S : Nat) (m : Nat → tc_MG) (h b : Nat) (t : Nat → Nat) : Prop := ∀ n, n < C → t n = t C ∨ ∃ s, s < S ∧ m s = (4, n, b, h, t C, -2)
def tc_PB (C T S : Nat) (m : Nat → tc_MG) (h b : Nat) : tc_BS → Prop
  | (p, _, e, t, _) => tc_P1 S m h b (t C) ∧ tc_P2 C T h p e t ∧ tc_P3 C S m h b t
def tc_W0 (C B T S K : Nat) (k : Nat → tc_BS) (m : Nat → tc_MG) : Prop := (∀ b, b < B → tc_WB C T S K m b (k b)) ∧ (∀ s, s < S → tc_WM C B T k s (m s))
section
variable {C B T S K : Nat} {k : Nat → tc_BS} {m : Nat → tc_MG} {s b h d n y st : Nat} {v w : Int32} {x : tc_MG} {p e t : Nat → Nat} {c : Nat → Int32}
/-! places -/
theorem tc_Wp_take (hp : tc_Wp C T S m b p) (hd : d ≤ C) : tc_Wp C T S (tc_f1 m s x) b (tc_mv p (8 + s) d) := by
  intro i hi
  simp only [tc_mv]
  by_cases h1 : p i = 8 + s
  · rw [if_pos h1]; exact Or.inl hd
  · rw [if_neg h1]
    rcases hp i hi with h2 | ⟨s', h2, h3, h4, h5⟩
    · exact Or.inl h2
    · have hs : s' ≠ s := by omega
      exact Or.inr ⟨s', h2, h3, by rw [tc_f1n hs]; exact h4, by rw [tc_f1n hs]; exact h5⟩
theorem tc_Wp_keep (hp : tc_Wp C T S m b p) (ha : (m s).1 ≠ 3) : tc_Wp C T S (tc_f1 m s x) b p := by
  intro i hi
  rcases hp i hi with h2 | ⟨s', h2, h3, h4, h5⟩
  · exact Or.inl h2
  · have hs : s' ≠ s := fun z => ha (by rw [← z]; exact h4)
    exact Or.inr ⟨s', h2, h3, by rw [tc_f1n hs]; exact h4, by rw [tc_f1n hs]; exact h5⟩
theorem tc_Wp_red (hp : tc_Wp C T S m b p) (ha : x.1 = 3) (hb : x.2.2.1 = b) : tc_Wp C T S (tc_f1 m s x) b p := by
  intro i hi
  rcases hp i hi with h2 | ⟨s', h2, h3, h4, h5⟩
  · exact Or.inl h2
  · by_cases hs : s' = s
    · exact Or.inr ⟨s', h2, h3, by rw [hs, tc_f1s]; exact ha, by rw [hs, tc_f1s]; exact hb⟩
    · exact Or.inr ⟨s', h2, h3, by rw [tc_f1n hs]; exact h4, by rw [tc_f1n hs]; exact h5⟩
theorem tc_Wp_send (hp : tc_Wp C T S m b p) (hs : s < S) (ha : (m s).1 ≠ 3) (hx : x.1 = 3) (hb : x.2.2.1 = b) : tc_Wp C T S (tc_f1 m s x) b (tc_mv p n (8 + s)) := by
  intro i hi
  simp only [tc_mv]
  by_cases h1 : p i = n
  · rw [if_pos h1]; exact Or.inr ⟨s, hs, rfl, by rw [tc_f1s]; exact hx, by rw [tc_f1s]; exact hb⟩
  · rw [if_neg h1]; exact tc_Wp_keep hp ha i hi
theorem tc_Wp_give {j : Nat} (hp : tc_Wp C T S m b p) (hs : s < S) (ha : (m s).1 ≠ 3) (hx : x.1 = 3) (hb : x.2.2.1 = b) : tc_Wp C T S (tc_f1 m s x) b (tc_f1 p j (8 + s)) := by
  intro i hi
  by_cases h1 : i = j
  · rw [h1, tc_f1s]; exact Or.inr ⟨s, hs, rfl, by rw [tc_f1s]; exact hx, by rw [tc_f1s]; exact hb⟩
  · rw [tc_f1n h1]; exact tc_Wp_keep hp ha i hi
/-! copies -/
theorem tc_Wc_take (hC : C ≤ 4) (hc : tc_Wc C T p c) (hd : d ≤ C) (h0 : 0 < tc_ct p (8 + s) T) : tc_Wc C T (tc_mv p (8 + s) d) (if v = -2 then c else tc_f1 c d v) := by
  intro n hn h1
  by_cases hnd : n = d
  · subst hnd; rw [tc_ct_mvt (by omega)] at h1; omega
  · rw [tc_ct_mvn (by omega) hnd] at h1
    by_cases hv : v = -2
    · rw [if_pos hv]; exact hc n hn h1
    · rw [if_neg hv, tc_f1n hnd]; exact hc n hn h1
theorem tc_Wc_send (hC : C ≤ 4) (hc : tc_Wc C T p c) : tc_Wc C T (tc_mv p d (8 + s)) (tc_f1 c d (-2)) := by
  intro n hn h1
  by_cases hnd : n = d
  · rw [hnd, tc_f1s]
  · rw [tc_f1n hnd]; rw [tc_ct_mvn hnd (by omega)] at h1; exact hc n hn h1
theorem tc_Wc_give {j : Nat} (hC : C ≤ 4) (hc : tc_Wc C T p c) (hj : j < T) (h2 : 2 ≤ tc_ct p (p j) T) (hd : p j ≤ C) : tc_Wc C T (tc_f1 p j (8 + s)) c := by
  intro n hn h1
  by_cases hnd : p j = n
  · have := tc_ct_f1d (p := p) (i := j) (y := 8 + s) (by omega) T hj
    rw [hnd] at this h2; omega
  · rw [tc_ct_f1n hnd (by omega)] at h1; exact hc n hn h1
/-! stamps and beliefs -/
theorem tc_Wt_hear (ht : tc_Wt C K t) (hd : d < C) (hs : st ≤ t C) : tc_Wt C K (tc_f1 t d st) := by
  have e : tc_f1 t d st C = t C := tc_f1n (by omega)
  refine ⟨fun n hn => ?_, by rw [e]; exact ht.2⟩
  rw [e]
  by_cases h1 : n = d
  · rw [h1, tc_f1s]; exact hs
  · rw [tc_f1n h1]; exact ht.1 n hn
theorem tc_We_hear (he : tc_We C e) (hy : y < C ∨ y = 9999) : tc_We C (tc_f1 e d y) := by
  intro n hn
  by_cases h1 : n = d
  · rw [h1, tc_f1s]; exact hy
  · rw [tc_f1n h1]; exact he n hn
/-! the protocol -/
theorem tc_P1_keep {tC : Nat} (h1 : tc_P1 S m h b tC) (hx : x.1 ≠ 4) : tc_P1 S (tc_f1 m s x) h b tC := by
  intro s' hs' ha hb hst
  by_cases e : s' = s
  · rw [e, tc_f1s] at ha; exact absurd ha hx
  · rw [tc_f1n e] at *; exact h1 s' hs' ha hb hst
theorem tc_P2_mono {p' : Nat → Nat} (h2 : tc_P2 C T h p e t) (hp : ∀ n, n ≤ C → tc_ct p n T = 0 → tc_ct p' n T = 0) : tc_P2 C T h p' e t :=
  fun n hn ht => ⟨(h2 n hn ht).1, fun a b => hp n hn ((h2 n hn ht).2 a b)⟩
theorem tc_P2_take (hC : C ≤ 4) (h2 : tc_P2 C T h p e t) (hd : e d = 9999 ∨ e d = d) : tc_P2 C T h (tc_mv p (8 + s) d) e t := by
  intro n hn ht
  have := h2 n hn ht
  refine ⟨this.1, fun a q => ?_⟩
  by_cases hnd : n = d
  · subst hnd; omega
  · rw [tc_ct_mvn (by omega) hnd]; exact this.2 a q
theorem tc_P2_hear (h2 : tc_P2 C T h p e t) (hd : d < C) (hst : st = t C → y = h) (hy : y = 9999 ∨ y = d ∨ tc_ct p d T = 0) : tc_P2 C T h p (tc_f1 e d y) (tc_f1 t d st) := by
  intro n hn ht
  rw [tc_f1n (f := t) (show C ≠ d by omega)] at ht
  by_cases hnd : n = d
  · subst hnd
    rw [tc_f1s] at ht
    rw [tc_f1s]
    have := hst ht
    refine ⟨this, fun a q => ?_⟩
    rcases hy with z | z | z
    · omega
    · omega
    · exact z
  · rw [tc_f1n hnd] at ht ⊢; exact h2 n hn ht
theorem tc_P3_keep (h3 : tc_P3 C S m h b t) (ha : (m s).1 ≠ 4) : tc_P3 C S (tc_f1 m s x) h b t := by
  intro n hn
  rcases h3 n hn with z | ⟨s', hs', z⟩
  · exact Or.inl z
  · have hs : s' ≠ s := fun q => ha (by rw [← q, z])
    exact Or.inr ⟨s', hs', by rw [tc_f1n hs]; exact z⟩
theorem tc_P3_drop (h3 : tc_P3 C S m h b t) (ht : tc_Wt C K t) (hm : m s = (4, d, b, y, st, v)) (hd : d ≤ C) (hst : st ≤ t d) : tc_P3 C S (tc_f1 m s x) h b t := by
  intro n hn
  rcases h3 n hn with z | ⟨s', hs', z⟩
  · exact Or.inl z
  · by_cases hs : s' = s
    · rw [hs, hm] at z
      have h1 := congrArg (fun r : tc_MG => r.2.1) z
      have h2 := congrArg (fun r : tc_MG => r.2.2.2.2.1) z
      simp only at h1 h2
      subst h1
      have := ht.1 d hd
      exact Or.inl (by omega)
    · exact Or.inr ⟨s', hs', by rw [tc_f1n hs]; exact z⟩
theorem tc_P3_hear (h3 : tc_P3 C S m h b t) (hm : m s = (4, d, b, y, st, v)) (hd : d < C) (h4 : t d < st) (h5 : st ≤ t C) : tc_P3 C S (tc_f1 m s x) h b (tc_f1 t d st) := by
  intro n hn
  rw [tc_f1n (f := t) (show C ≠ d by omega)]
  by_cases hnd : n = d
  · subst hnd
    rw [tc_f1s]
    by_cases q : st = t C
    · exact Or.inl q
    · rcases h3 n hn with z | ⟨s', hs', z⟩
      · omega
      · have hs : s' ≠ s := by
          intro r
          rw [r, hm] at z
          have h2 := congrArg (fun r : tc_MG => r.2.2.2.2.1) z
          simp only at h2
          exact q h2
        exact Or.inr ⟨s', hs', by rw [tc_f1n hs]; exact z⟩
  · rw [tc_f1n hnd]
    rcases h3 n hn with z | ⟨s', hs', z⟩
    · exact Or.inl z
    · have hs : s' ≠ s := by
        intro r
        rw [r, hm] at z
        have h2 := congrArg (fun r : tc_MG => r.2.1) z
        simp only at h2
        exact hnd h2.symm
      exact Or.inr ⟨s', hs', by rw [tc_f1n hs]; exact z⟩
end
/-! one block and one slot change -/
theorem tc_locW {C B T S K s b : Nat} {k : Nat → tc_BS} {m : Nat → tc_MG} {x : tc_MG} {q : tc_BS} (hW : tc_W0 C B T S K k m) (hm : (m s).1 = 3 → (m s).2.2.1 = b)
    (h1 : tc_WB C T S K (tc_f1 m s x) b q) (h2 : tc_WM C B T (tc_f1 k b q) s x)
    (h3 : ∀ s', s' < S → s' ≠ s → (m s').1 = 3 → (m s').2.2.1 = b → tc_ct q.1 (8 + s') T = tc_ct (k b).1 (8 + s') T)
    (h4 : (k b).2.2.2.1 C ≤ q.2.2.2.1 C) : tc_W0 C B T S K (tc_f1 k b q) (tc_f1 m s x) := by
  refine ⟨fun b' hb' => ?_, fun s' hs' => ?_⟩
  · by_cases e : b' = b
    · rw [e, tc_f1s]; exact h1
    · rw [tc_f1n e]
      have := hW.1 b' hb'
      revert this
      rcases k b' with ⟨p, c, e', t, w⟩
      intro ⟨g1, g2, g3, g4⟩
      refine ⟨fun i hi => ?_, g2, g3, g4⟩
      rcases g1 i hi with z | ⟨s', q1, q2, q3, q4⟩
      · exact Or.inl z
      · have hs : s' ≠ s := by
          intro r
          rw [r] at q3 q4
          have := hm q3
          omega
        exact Or.inr ⟨s', q1, q2, by rw [tc_f1n hs]; exact q3, by rw [tc_f1n hs]; exact q4⟩
  · by_cases e : s' = s
    · rw [e, tc_f1s]; exact h2
    · rw [tc_f1n e]
      have := hW.2 s' hs'
      have h3' := h3 s' hs' e
      revert this h3'
      rcases m s' with ⟨a, d, b', y, st, v⟩
      intro g h3'
      rcases g with g | ⟨g1, g2, g⟩
      · exact Or.inl g
      · refine Or.inr ⟨g1, g2, ?_⟩
        by_cases eb : b' = b
        · subst eb
          rw [tc_f1s]
          rcases g with g | ⟨g3, g4, g5, g6⟩ | ⟨g3, g4, g5, g6, g7⟩
          · exact Or.inl g
          · exact Or.inr (Or.inl ⟨g3, g4, g5, by rw [h3' g3 rfl]; exact g6⟩)
          · exact Or.inr (Or.inr ⟨g3, g4, g5, Nat.le_trans g6 h4, g7⟩)
        · rw [tc_f1n eb]; exact g
theorem tc_PB_other {C T S s b b' h : Nat} {m : Nat → tc_MG} {x : tc_MG} {q : tc_BS} (hb : b' ≠ b) (hm : (m s).1 = 4 → (m s).2.2.1 = b) (hx : x.1 = 4 → x.2.2.1 = b)
    (hP : tc_PB C T S m h b' q) : tc_PB C T S (tc_f1 m s x) h b' q := by
  rcases q with ⟨p, c, e, t, w⟩
  obtain ⟨h1, h2, h3⟩ := hP
  refine ⟨fun s' hs' ha hb' hst => ?_, h2, fun n hn => ?_⟩
  · by_cases r : s' = s
    · rw [r, tc_f1s] at ha hb'; have := hx ha; omega
    · rw [tc_f1n r] at *; exact h1 s' hs' ha hb' hst
  · rcases h3 n hn with z | ⟨s', hs', z⟩
    · exact Or.inl z
    · have hs : s' ≠ s := by
        intro r
        rw [← r, z] at hm
        have := hm rfl
        simp only at this
        exact hb this
      exact Or.inr ⟨s', hs', by rw [tc_f1n hs]; exact z⟩
/-- what a delivery does: one of seven -/
theorem tc_dB_W {C B T S K s : Nat} {k : Nat → tc_BS} {m : Nat → tc_MG} (hC : C ≤ 4) (hT : 0 < T) (hs : s < S) (hW : tc_W0 C B T S K k m) (h0 : m s ≠ tc_EMP) :
    tc_W0 C B T S K (tc_dk T s k m) (tc_dm T s k m) ∧ ∀ b h, b < B → tc_PB C T S m h b (k b) → tc_PB C T S (tc_dm T s k m) h b (tc_dk T s k m b) := by
  have hwm := hW.2 s hs
  unfold tc_dk tc_dm
  rcases hm : m s with ⟨a, d, b, y, st, v⟩
  rw [hm] at hwm h0
  rcases hwm with g | ⟨hb, hd, g⟩
  · exact absurd g h0
  have hwb := hW.1 b hb
  simp only
  rcases hk : k b with ⟨p, c, e, t, w⟩
  rw [hk] at hwb g
  obtain ⟨gp, gt, ge, gc⟩ := hwb
  have key : ∀ (q : tc_BS) (x : tc_MG), (x = tc_EMP ∨ (x.2.2.1 = b ∧ x.1 = 3)) → tc_WB C T S K (tc_f1 m s x) b q → tc_WM C B T (tc_f1 k b q) s x →
      (∀ s', s' ≠ s → tc_ct q.1 (8 + s') T = tc_ct p (8 + s') T) → t C ≤ q.2.2.2.1 C → (∀ h, tc_PB C T S m h b (p, c, e, t, w) → tc_PB C T S (tc_f1 m s x) h b q) →
      tc_W0 C B T S K (tc_f1 k b q) (tc_f1 m s x) ∧ ∀ b' h, b' < B → tc_PB C T S m h b' (k b') → tc_PB C T S (tc_f1 m s x) h b' (tc_f1 k b q b') := by
    intro q x hx q1 q2 q3 q4 q5
    refine ⟨tc_locW hW (fun _ => by rw [hm]) q1 q2 (fun s' _ z _ _ => by rw [hk]; exact q3 s' z) (by rw [hk]; exact q4), fun b' h hb' hP => ?_⟩
    by_cases eb : b' = b
    · rw [eb, tc_f1s]; rw [eb, hk] at hP; exact q5 h hP
    · rw [tc_f1n eb]
      refine tc_PB_other eb (fun _ => by rw [hm]) (fun z => ?_) hP
      rcases hx with hx | hx
      · rw [hx] at z; exact absurd z (by decide)
      · rw [hx.2] at z; exact absurd z (by decide)
  rcases g with ⟨g1, g2, g3, g4⟩ | ⟨g1, g2, g3, g4⟩ | ⟨g1, g2, g3, g4, g5⟩
  · -- a request
    have hm3 : (m s).1 ≠ 3 := by rw [hm]; simp only; omega
    have hm4 : (m s).1 ≠ 4 := by rw [hm]; simp only; omega
    have drop : tc_W0 C B T S K (tc_f1 k b (p, c, e, t, w)) (tc_f1 m s tc_EMP) ∧ ∀ b' h, b' < B → tc_PB C T S m h b' (k b') → tc_PB C T S (tc_f1 m s tc_EMP) h b' (tc_f1 k b (p, c, e, t, w) b') := by
      refine key _ _ (Or.inl rfl) ⟨tc_Wp_keep gp hm3, gt, ge, gc⟩ (Or.inl rfl) (fun _ _ => rfl) (Nat.le_refl _) (fun h hP => ?_)
      exact ⟨tc_P1_keep hP.1 (show (0 : Nat) ≠ 4 by decide), hP.2.1, tc_P3_keep hP.2.2 hm4⟩
    have send : e d = 9999 → 0 < tc_ct p d T → tc_W0 C B T S K (tc_f1 k b (tc_sB s d y b (p, c, e, t, w)).1) (tc_f1 m s (tc_sB s d y b (p, c, e, t, w)).2) ∧ ∀ b' h, b' < B → tc_PB C T S m h b' (k b') → tc_PB C T S (tc_f1 m s (tc_sB s d y b (p, c, e, t, w)).2) h b' (tc_f1 k b (tc_sB s d y b (p, c, e, t, w)).1 b') := by
      intro he hct
      simp only [tc_sB]
      refine key _ _ (Or.inr ⟨rfl, rfl⟩) ⟨tc_Wp_send gp hs hm3 rfl rfl, gt, ge, tc_Wc_send hC gc⟩ (Or.inr ⟨hb, by omega, Or.inr (Or.inl ⟨rfl, rfl, rfl, ?_⟩)⟩) (fun s' z => tc_ct_mvn (by omega) (by omega) T) (Nat.le_refl _) (fun h hP => ?_)
      · rw [tc_f1s]
        show 0 < tc_ct (tc_mv p d (8 + s)) (8 + s) T
        rw [tc_ct_mvt (by omega)]; omega
      · refine ⟨tc_P1_keep hP.1 (show (3 : Nat) ≠ 4 by decide), tc_P2_mono hP.2.1 (fun n hn z => ?_), tc_P3_keep hP.2.2 hm4⟩
        by_cases hnd : n = d
        · rw [hnd]; exact tc_ct_mvf (by omega) T
        · rw [tc_ct_mvn hnd (by omega)]; exact z
    rcases g1 with g1 | g1
    · subst g1
      simp only [tc_dB, show ¬ ((1 : Nat) = 3) by decide, show ¬ ((1 : Nat) = 4) by decide, if_false, if_true]
      by_cases q1 : e d = 9999 ∧ p 0 = d
      · rw [if_pos q1]
        by_cases q2 : 2 ≤ tc_ct p d T
        · rw [if_pos q2]
          obtain ⟨j, j1, j2, j3, j4⟩ := tc_gv_ok q2
          have eg : tc_gv T p d (8 + s) = tc_f1 p j (8 + s) := by rw [tc_gv, j4]
          rw [eg]
          refine key _ _ (Or.inr ⟨rfl, rfl⟩) ⟨tc_Wp_give gp hs hm3 rfl rfl, gt, ge, tc_Wc_give hC gc j2 (by rw [j3]; exact q2) (by omega)⟩ (Or.inr ⟨hb, by omega, Or.inr (Or.inl ⟨rfl, rfl, rfl, ?_⟩)⟩) (fun s' z => tc_ct_f1n (by omega) (by omega) T) (Nat.le_refl _) (fun h hP => ?_)
          · rw [tc_f1s]
            show 0 < tc_ct (tc_f1 p j (8 + s)) (8 + s) T
            rw [tc_ct_f1u (by omega) T j2]; omega
          · refine ⟨tc_P1_keep hP.1 (show (3 : Nat) ≠ 4 by decide), tc_P2_mono hP.2.1 (fun n hn z => ?_), tc_P3_keep hP.2.2 hm4⟩
            by_cases hnd : p j = n
            · rw [← hnd, j3] at z; omega
            · rw [tc_ct_f1n hnd (by omega)]; exact z
        · rw [if_neg q2]; exact send q1.1 (tc_ct_pos T hT q1.2)
      · rw [if_neg q1]; exact drop
    · subst g1
      simp only [tc_dB, show ¬ ((2 : Nat) = 3) by decide, show ¬ ((2 : Nat) = 4) by decide, show ¬ ((2 : Nat) = 1) by decide, if_false, if_true]
      by_cases q1 : e d = 9999 ∧ 0 < tc_ct p d T
      · rw [if_pos q1]; exact send q1.1 q1.2
      · rw [if_neg q1]; exact drop
  · -- tokens
    subst g1
    have hm4 : (m s).1 ≠ 4 := by rw [hm]; simp only; decide
    simp only [tc_dB, if_true]
    by_cases q1 : e d = 9999 ∨ e d = d
    · rw [if_pos q1]
      refine key _ _ (Or.inl rfl) ⟨tc_Wp_take gp hd, gt, ge, tc_Wc_take hC gc hd g4⟩ (Or.inl rfl) (fun s' z => tc_ct_mvn (by omega) (by omega) T) (Nat.le_refl _) (fun h hP => ?_)
      exact ⟨tc_P1_keep hP.1 (show (0 : Nat) ≠ 4 by decide), tc_P2_take hC hP.2.1 q1, tc_P3_keep hP.2.2 hm4⟩
    · rw [if_neg q1]
      have := ge d hd
      refine key _ _ (Or.inr ⟨rfl, rfl⟩) ⟨tc_Wp_red gp rfl rfl, gt, ge, gc⟩ (Or.inr ⟨hb, by omega, Or.inr (Or.inl ⟨rfl, g2, g3, ?_⟩)⟩) (fun _ _ => rfl) (Nat.le_refl _) (fun h hP => ?_)
      · rw [tc_f1s]; exact g4
      · exact ⟨tc_P1_keep hP.1 (show (3 : Nat) ≠ 4 by decide), hP.2.1, tc_P3_keep hP.2.2 hm4⟩
  · -- a notice
    subst g1
    have hm3 : (m s).1 ≠ 3 := by rw [hm]; simp only; decide
    have hst : ∀ h, tc_P1 S m h b (t C) → st = t C → y = h := by
      intro h h1 z
      have := h1 s hs
      rw [hm] at this
      exact this rfl rfl z
    simp only [tc_dB, show ¬ ((4 : Nat) = 3) by decide, if_false, if_true]
    by_cases q1 : st ≤ t d
    · rw [if_pos q1]
      refine key _ _ (Or.inl rfl) ⟨tc_Wp_keep gp hm3, gt, ge, gc⟩ (Or.inl rfl) (fun _ _ => rfl) (Nat.le_refl _) (fun h hP => ?_)
      exact ⟨tc_P1_keep hP.1 (show (0 : Nat) ≠ 4 by decide), hP.2.1, tc_P3_drop hP.2.2 gt hm hd q1⟩
    · rw [if_neg q1]
      have q1' : t d < st := by omega
      have e1 : tc_f1 t d st C = t C := tc_f1n (by omega)
      by_cases q2 : y = 9999 ∨ y = d ∨ tc_ct p d T = 0
      · rw [if_pos q2]
        refine key _ _ (Or.inl rfl) ⟨tc_Wp_keep gp hm3, tc_Wt_hear gt g2 g4, tc_We_hear ge g3, gc⟩ (Or.inl rfl) (fun _ _ => rfl) (Nat.le_of_eq e1.symm) (fun h hP => ?_)
        refine ⟨?_, tc_P2_hear hP.2.1 g2 (hst h hP.1) q2, tc_P3_hear hP.2.2 hm g2 q1' g4⟩
        rw [e1]; exact tc_P1_keep hP.1 (show (0 : Nat) ≠ 4 by decide)
      · rw [if_neg q2]
        simp only [tc_sB]
        refine key _ _ (Or.inr ⟨rfl, rfl⟩) ⟨tc_Wp_send gp hs hm3 rfl rfl, tc_Wt_hear gt g2 g4, tc_We_hear ge g3, tc_Wc_send hC gc⟩ (Or.inr ⟨hb, by omega, Or.inr (Or.inl ⟨rfl, rfl, rfl, ?_⟩)⟩) (fun s' z => tc_ct_mvn (by omega) (by omega) T) (Nat.le_of_eq e1.symm) (fun h hP => ?_)
        · rw [tc_f1s]
          show 0 < tc_ct (tc_mv p d (8 + s)) (8 + s) T
          rw [tc_ct_mvt (by omega)]; omega
        · refine ⟨?_, tc_P2_hear (tc_P2_mono hP.2.1 (fun n hn z => ?_)) g2 (hst h hP.1) (Or.inr (Or.inr (tc_ct_mvf (by omega) T))), tc_P3_hear hP.2.2 hm g2 q1' g4⟩
          · show tc_P1 S _ h b (tc_f1 t d st C)
            rw [e1]; exact tc_P1_keep hP.1 (show (3 : Nat) ≠ 4 by decide)
          · by_cases hnd : n = d
            · rw [hnd]; exact tc_ct_mvf (by omega) T
            · rw [tc_ct_mvn hnd (by omega)]; exact z
end
section
/-! the pool: first empty slot, free slots, notices, requests; the queue as a list -/
def tc_kk (m : Nat → tc_MG) : Nat → Nat := fun s => (m s).1
def tc_fe (S : Nat) (m : Nat → tc_MG) : Nat := tc_fi (tc_kk m) 0 S 0
def tc_fr (S : Nat) (m : Nat → tc_MG) : Nat := tc_ct (tc_kk m) 0 S
def tc_pu (S : Nat) (m : Nat → tc_MG) (x : tc_MG) : Nat → tc_MG := tc_f1 m (tc_fe S m) x
def tc_an (S b y st : Nat) (m : Nat → tc_MG) : Nat → Nat → tc_MG
  | 0 => m
  | d + 1 => tc_pu S (tc_an S b y st m d) (4, d, b, y, st, -2)
def tc_rq (S a b n : Nat) (m : Nat → tc_MG) : Nat → Nat → tc_MG
  | 0 => m
  | d + 1 => if d = n then tc_rq S a b n m d else tc_pu S (tc_rq S a b n m d) (a, d, b, n, 9999, -2)
theorem tc_kk_f1 (m : Nat → tc_MG) (s : Nat) (x : tc_MG) : tc_kk (tc_f1 m s x) = tc_f1 (tc_kk m) s x.1 := by
  funext j
  simp only [tc_kk]
  by_cases h : j = s
  · rw [h, tc_f1s, tc_f1s]
  · rw [tc_f1n h, tc_f1n h]; rfl
theorem tc_fe_ok {S : Nat} {m : Nat → tc_MG} (h : 0 < tc_fr S m) : tc_fe S m < S ∧ (m (tc_fe S m)).1 = 0 := by
  obtain ⟨j, h1, h2⟩ := tc_ct_ex S h
  have := tc_fi_ok (p := tc_kk m) (d := 0) S 0 ⟨j, by omega, by omega, h2⟩
  exact ⟨by have := this.2.1; unfold tc_fe; omega, this.2.2⟩
theorem tc_fe_none {p : Nat → Nat} {d : Nat} : ∀ f i, (∀ j, i ≤ j → j < i + f → p j ≠ d) → tc_fi p d f i = 9999
  | 0, i, _ => rfl
  | f + 1, i, h => by
    simp only [tc_fi]
    rw [if_neg (h i (by omega) (by omega))]
    exact tc_fe_none f (i + 1) (fun j h1 h2 => h j (by omega) (by omega))
theorem tc_fe_no {S : Nat} {m : Nat → tc_MG} (h : tc_fr S m = 0) : tc_fe S m = 9999 := by
  refine tc_fe_none S 0 (fun j _ h2 e => ?_)
  have := tc_ct_pos (p := tc_kk m) (x := 0) S (show j < S by omega) e
  unfold tc_fr at h
  omega
theorem tc_pu_fr {S : Nat} {m : Nat → tc_MG} {x : tc_MG} (h : 0 < tc_fr S m) (hx : x.1 ≠ 0) : tc_fr S (tc_pu S m x) + 1 = tc_fr S m := by
  obtain ⟨h1, h2⟩ := tc_fe_ok h
  unfold tc_fr tc_pu
  rw [tc_kk_f1]
  have h3 : tc_kk m (tc_fe S m) = 0 := h2
  have := tc_ct_f1d (p := tc_kk m) (i := tc_fe S m) (y := x.1) (by omega) S h1
  rw [h3] at this
  exact this
theorem tc_an_ok {S b y st : Nat} {m : Nat → tc_MG} : ∀ d, d ≤ tc_fr S m → tc_fr S (tc_an S b y st m d) + d = tc_fr S m ∧
    (∀ s, (m s).1 ≠ 0 → tc_an S b y st m d s = m s) ∧ (∀ s, tc_an S b y st m d s = m s ∨ ((m s).1 = 0 ∧ ∃ j, j < d ∧ tc_an S b y st m d s = (4, j, b, y, st, -2))) ∧
    (∀ j, j < d → ∃ s, s < S ∧ tc_an S b y st m d s = (4, j, b, y, st, -2))
  | 0, _ => ⟨rfl, fun _ _ => rfl, fun _ => Or.inl rfl, fun j hj => by omega⟩
  | d + 1, h => by
    obtain ⟨g1, g2, g3, g4⟩ := tc_an_ok (S := S) (b := b) (y := y) (st := st) (m := m) d (by omega)
    have h0 : 0 < tc_fr S (tc_an S b y st m d) := by omega
    obtain ⟨f1, f2⟩ := tc_fe_ok h0
    have f3 : (m (tc_fe S (tc_an S b y st m d))).1 = 0 := by
      rcases g3 (tc_fe S (tc_an S b y st m d)) with z | z
      · rw [← z]; exact f2
      · exact z.1
    have f4 := tc_pu_fr (x := (4, d, b, y, st, -2)) h0 (by simp only; decide)
    simp only [tc_an]
    refine ⟨by omega, fun s hs => ?_, fun s => ?_, fun j hj => ?_⟩
    · have : s ≠ tc_fe S (tc_an S b y st m d) := fun e => hs (by rw [e]; exact f3)
      rw [tc_pu, tc_f1n this]; exact g2 s hs
    · by_cases e : s = tc_fe S (tc_an S b y st m d)
      · refine Or.inr ⟨by rw [e]; exact f3, d, by omega, ?_⟩
        rw [tc_pu, e, tc_f1s]
      · rw [tc_pu, tc_f1n e]
        rcases g3 s with z | ⟨z1, j, z2, z3⟩
        · exact Or.inl z
        · exact Or.inr ⟨z1, j, by omega, z3⟩
    · by_cases e : j = d
      · exact ⟨_, f1, by rw [tc_pu, tc_f1s, e]⟩
      · obtain ⟨s, s1, s2⟩ := g4 j (by omega)
        have : s ≠ tc_fe S (tc_an S b y st m d) := by
          intro z
          rw [← z, s2] at f2
          exact absurd f2 (by simp only; decide)
        exact ⟨s, s1, by rw [tc_pu, tc_f1n this]; exact s2⟩
/-! the queue -/
def tc_h0 : tc_QL → Nat
  | [] => 9999
  | x :: _ => x.2.1
theorem tc_qs_cons (b : Nat) (x : Nat × Nat × Int32) (l : tc_QL) : tc_qs b (x :: l) = if x.1 = b then x :: tc_qs b l else tc_qs b l := by
  unfold tc_qs
  rw [List.filter_cons]
  by_cases h : x.1 = b
  · rw [if_pos h, if_pos (by simpa using h)]
  · rw [if_neg h, if_neg (by simpa using h)]
theorem tc_hd_qs (b : Nat) : ∀ L, tc_hd b L = tc_h0 (tc_qs b L)
  | [] => rfl
  | x :: l => by
    rw [tc_qs_cons]
    simp only [tc_hd]
    by_cases h : x.1 = b
    · rw [if_pos h, if_pos h]; rfl
    · rw [if_neg h, if_neg h]; exact tc_hd_qs b l
theorem tc_qs_rm (b : Nat) : ∀ L, tc_qs b (tc_rm b L) = (tc_qs b L).tail
  | [] => rfl
  | x :: l => by
    rw [tc_qs_cons]
    simp only [tc_rm]
    by_cases h : x.1 = b
    · rw [if_pos h, if_pos h]; rfl
    · rw [if_neg h, if_neg h, tc_qs_cons, if_neg h]; exact tc_qs_rm b l
theorem tc_qs_rmn {b b' : Nat} (hb : b' ≠ b) : ∀ L, tc_qs b' (tc_rm b L) = tc_qs b' L
  | [] => rfl
  | x :: l => by
    rw [tc_qs_cons]
    simp only [tc_rm]
    by_cases h : x.1 = b
    · rw [if_pos h, if_neg (by omega)]
    · rw [if_neg h, tc_qs_cons]
      by_cases h2 : x.1 = b'
      · rw [if_pos h2, if_pos h2, tc_qs_rmn hb l]
      · rw [if_neg h2, if_neg h2, tc_qs_rmn hb l]
theorem tc_qs_app (b : Nat) (L : tc_QL) (x : Nat × Nat × Int32) : tc_qs b (L ++ [x]) = tc_qs b L ++ (if x.1 = b then [x] else []) := by
  unfold tc_qs
  rw [List.filter_append]
  by_cases h : x.1 = b
  · rw [if_pos h]; simp [h]
  · rw [if_neg h]; simp [h]
theorem tc_qs_mem {b : Nat} {L : tc_QL} {x : Nat × Nat × Int32} : x ∈ tc_qs b L ↔ x ∈ L ∧ x.1 = b := by
  unfold tc_qs
  rw [List.mem_filter]
  simp
theorem tc_rm_sub (b : Nat) : ∀ L : tc_QL, (tc_rm b L).Sublist L
  | [] => List.Sublist.slnil
  | x :: l => by
    simp only [tc_rm]
    by_cases h : x.1 = b
    · rw [if_pos h]; exact List.sublist_cons_self x l
    · rw [if_neg h]; exact (tc_rm_sub b l).cons_cons x
def tc_LO (C B : Nat) (L : tc_QL) : Prop := (∀ x, x ∈ L → x.1 < B ∧ x.2.1 < C) ∧ (L.map (fun x => x.1 * 4 + x.2.1)).Nodup
theorem tc_LO_rm {C B : Nat} {L : tc_QL} (b : Nat) (h : tc_LO C B L) : tc_LO C B (tc_rm b L) :=
  ⟨fun x hx => h.1 x ((tc_rm_sub b L).subset hx), ((tc_rm_sub b L).map _).nodup h.2⟩
theorem tc_LO_add {C B : Nat} {L : tc_QL} {b n : Nat} {v : Int32} (hC : C ≤ 4) (h : tc_LO C B L) (hb : b < B) (hn : n < C) (hx : ∀ x, x ∈ L → x.1 = b → x.2.1 ≠ n) : tc_LO C B (L ++ [(b, n, v)]) := by
  refine ⟨fun x hx' => ?_, ?_⟩
  · rcases List.mem_append.mp hx' with z | z
    · exact h.1 x z
    · rw [List.mem_singleton.mp z]; exact ⟨hb, hn⟩
  · rw [List.map_append, List.nodup_append]
    refine ⟨h.2, by simp, fun a ha a' ha' => ?_⟩
    obtain ⟨x, x1, x2⟩ := List.mem_map.mp ha
    have h3 : a' = b * 4 + n := by simpa using ha'
    have h4 := h.1 x x1
    intro e
    by_cases e1 : x.1 = b
    · have := hx x x1 e1; omega
    · omega
/-- different numbers below n are at most n -/
theorem tc_nodup_len : ∀ (n : Nat) (l : List Nat), l.Nodup → (∀ x, x ∈ l → x < n) → l.length ≤ n
  | 0, [], _, _ => Nat.le_refl 0
  | 0, x :: l, _, h => by have := h x List.mem_cons_self; omega
  | n + 1, l, hn, h => by
    have h1 := tc_nodup_len n (l.erase n) (hn.erase n) (fun x hx => by
      have h2 := h x (List.mem_of_mem_erase hx)
      have h3 : x ≠ n := fun e => by rw [e] at hx; exact (List.Nodup.not_mem_erase hn) hx
      omega)
    have h4 : l.length ≤ (l.erase n).length + 1 := by
      rw [List.length_erase]
      split <;> omega
    omega
theorem tc_LO_len {C B : Nat} {L : tc_QL} (hC : C ≤ 4) (hB : B ≤ 4) (h : tc_LO C B L) : L.length ≤ 16 := by
  have := tc_nodup_len 16 _ h.2 (fun a ha => by
    obtain ⟨x, x1, x2⟩ := List.mem_map.mp ha
    have := h.1 x x1
    omega)
  rw [List.length_map] at this
  exact this
theorem tc_nodup_inj {f : Nat × Nat × Int32 → Nat} {g : Nat × Nat × Int32 → Nat} : ∀ l : tc_QL, (l.map f).Nodup → (∀ x, x ∈ l → ∀ y, y ∈ l → g x = g y → f x = f y) → (l.map g).Nodup
  | [], _, _ => List.nodup_nil
  | x :: l, h, hg => by
    rw [List.map_cons, List.nodup_cons] at h ⊢
    refine ⟨fun hx => ?_, tc_nodup_inj l h.2 (fun y hy z hz => hg y (List.mem_cons_of_mem _ hy) z (List.mem_cons_of_mem _ hz))⟩
    obtain ⟨y, y1, y2⟩ := List.mem_map.mp hx
    apply h.1
    rw [List.mem_map]
    exact ⟨y, y1, hg y (List.mem_cons_of_mem _ y1) x List.mem_cons_self y2⟩
theorem tc_qs_len {C B : Nat} {L : tc_QL} (hC : C ≤ 4) (h : tc_LO C B L) (b : Nat) : (tc_qs b L).length ≤ C := by
  have hs : (tc_qs b L).Sublist L := List.filter_sublist
  have h1 : ((tc_qs b L).map (fun x => x.2.1)).Nodup := by
    refine tc_nodup_inj (f := fun x => x.1 * 4 + x.2.1) _ ((hs.map _).nodup h.2) (fun x hx y hy e => ?_)
    have hx := (tc_qs_mem.mp hx).2
    have hy := (tc_qs_mem.mp hy).2
    have e' : x.2.1 = y.2.1 := e
    show x.1 * 4 + x.2.1 = y.1 * 4 + y.2.1
    omega
  have := tc_nodup_len C _ h1 (fun a ha => by
    obtain ⟨x, x1, x2⟩ := List.mem_map.mp ha
    have := h.1 x (hs.subset x1)
    omega)
  rw [List.length_map] at this
  exact this
theorem tc_LO_eq {C B : Nat} : ∀ {L : tc_QL}, C ≤ 4 → tc_LO C B L → ∀ x, x ∈ L → ∀ y, y ∈ L → x.1 = y.1 → x.2.1 = y.2.1 → x = y
  | [], _, _, x, hx, _, _, _, _ => by simp at hx
  | z :: l, hC, h, x, hx, y, hy, e1, e2 => by
    have hn := h.2
    rw [List.map_cons, List.nodup_cons] at hn
    have ht : tc_LO C B l := ⟨fun q hq => h.1 q (List.mem_cons_of_mem _ hq), hn.2⟩
    rcases List.mem_cons.mp hx with a | a <;> rcases List.mem_cons.mp hy with b | b
    · rw [a, b]
    · exact absurd (List.mem_map.mpr ⟨y, b, by rw [← e1, ← e2, a]⟩) hn.1
    · exact absurd (List.mem_map.mpr ⟨x, a, by rw [e1, e2, b]⟩) hn.1
    · exact tc_LO_eq hC ht x a y b e1 e2
theorem tc_hd_ok {C B : Nat} {L : tc_QL} (h : tc_LO C B L) (b : Nat) : tc_hd b L < C ∨ tc_hd b L = 9999 := by
  rw [tc_hd_qs]
  rcases e : tc_qs b L with _ | ⟨x, l⟩
  · exact Or.inr rfl
  · have : x ∈ tc_qs b L := by rw [e]; exact List.mem_cons_self
    exact Or.inl (h.1 x (tc_qs_mem.mp this).1).2
end
section
/-! numbers, and how the two objects picture the abstract state -/
def tc_nz (x : Nat) : Int32 := if x = 9999 then -2 else nI x
def tc_mI (x : Nat) : Int32 := if x = 9999 then -1 else nI x
theorem tc_mIN : tc_mI 9999 = -1 := if_pos rfl
theorem tc_mIl {x : Nat} (h : x < 9999) : tc_mI x = nI x := if_neg (by omega)
theorem tc_fi_t {p : Nat → Nat} {d f i : Nat} (h : p i = d) : tc_fi p d (f + 1) i = i := if_pos h
theorem tc_fi_n {p : Nat → Nat} {d f i : Nat} (h : ¬ p i = d) : tc_fi p d (f + 1) i = tc_fi p d f (i + 1) := if_neg h
theorem tc_ct_t {p : Nat → Nat} {x n : Nat} (h : p n = x) : tc_ct p x (n + 1) = tc_ct p x n + 1 := by rw [tc_ct, if_pos h]
theorem tc_ct_n {p : Nat → Nat} {x n : Nat} (h : ¬ p n = x) : tc_ct p x (n + 1) = tc_ct p x n := by rw [tc_ct, if_neg h]; rfl
theorem tc_nzN : tc_nz 9999 = -2 := if_pos rfl
theorem tc_nzl {x : Nat} (h : x < 9999) : tc_nz x = nI x := if_neg (by omega)
theorem tc_nI_m2 {x : Nat} (h : x < 2147483648) : nI x ≠ -2 := by
  intro e
  have h1 := congrArg Int32.toInt e
  rw [nI_toInt (by omega), show (-2 : Int32).toInt = -2 by decide] at h1
  omega
theorem tc_nI_m1 {x : Nat} (h : x < 2147483648) : nI x ≠ -1 := by
  intro e
  have h1 := congrArg Int32.toInt e
  rw [nI_toInt (by omega), show (-1 : Int32).toInt = -1 by decide] at h1
  omega
theorem tc_nz_m2 {x : Nat} (h : x < 2147483648) : tc_nz x = -2 ↔ x = 9999 := by
  unfold tc_nz
  by_cases e : x = 9999
  · rw [if_pos e]; exact ⟨fun _ => e, fun _ => rfl⟩
  · rw [if_neg e]; exact ⟨fun z => absurd z (tc_nI_m2 h), fun z => absurd z e⟩
theorem tc_nz_nI {x y : Nat} (h : x < 2147483648) (hy : y < 9999) : tc_nz x = nI y ↔ x = y := by
  unfold tc_nz
  by_cases e : x = 9999
  · rw [if_pos e]; exact ⟨fun z => absurd z.symm (tc_nI_m2 (by omega)), fun z => by omega⟩
  · rw [if_neg e]; exact nI_eq (by omega) (by omega)
theorem tc_cl {n : Nat} (h : n < 2147483648) : (nI n).toNatClampNeg = n := nI_clamp (by omega)
theorem tc_vin {n N : Nat} (h : n < N) (hN : N ≤ 64) : vp_in (nI n) N := vp_in_nI h (by omega)
theorem tc_le {a b : Nat} (ha : a < 2147483648) (hb : b < 2147483648) : nI a ≤ nI b ↔ a ≤ b := nI_leI (by omega) (by omega)
theorem tc_lt {a b : Nat} (ha : a < 2147483648) (hb : b < 2147483648) : nI a < nI b ↔ a < b := nI_ltI (by omega) (by omega)
theorem tc_eq {a b : Nat} (ha : a < 2147483648) (hb : b < 2147483648) : nI a = nI b ↔ a = b := nI_eq (by omega) (by omega)
theorem tc_le0 {a : Nat} (ha : a < 2147483648) : nI a ≤ 0 ↔ a = 0 := by
  rw [← nI_0, tc_le ha (by omega)]; omega
theorem tc_0le {a : Nat} (ha : a < 2147483648) : (0 ≤ nI a) = True := eq_true (nI_pos' (by omega))
theorem tc_lt0 {a : Nat} (ha : a < 2147483648) : (nI a < 0) = False := eq_false (nI_pos (by omega))
theorem tc_eq0 {a : Nat} (ha : a < 2147483648) : nI a = 0 ↔ a = 0 := by rw [← nI_0, tc_eq ha (by omega)]
theorem tc_eq1 {a : Nat} (ha : a < 2147483648) : nI a = 1 ↔ a = 1 := tc_eq (b := 1) ha (by omega)
theorem tc_eq2 {a : Nat} (ha : a < 2147483648) : nI a = 2 ↔ a = 2 := tc_eq (b := 2) ha (by omega)
theorem tc_eq3 {a : Nat} (ha : a < 2147483648) : nI a = 3 ↔ a = 3 := tc_eq (b := 3) ha (by omega)
theorem tc_eq4 {a : Nat} (ha : a < 2147483648) : nI a = 4 ↔ a = 4 := tc_eq (b := 4) ha (by omega)
theorem tc_lt2 {a : Nat} (ha : a < 2147483648) : nI a < 2 ↔ a < 2 := tc_lt (b := 2) ha (by omega)
theorem tc_c5 (b n : Nat) : nI b * 5 + nI n = nI (b * 5 + n) := by
  rw [show (5 : Int32) = nI 5 from rfl, pk_mul, nI_add]
theorem tc_c4 (b n : Nat) : nI b * 4 + nI n = nI (b * 4 + n) := by
  rw [show (4 : Int32) = nI 4 from rfl, pk_mul, nI_add]
theorem tc_c8 (b n : Nat) : nI b * 8 + nI n = nI (b * 8 + n) := by
  rw [show (8 : Int32) = nI 8 from rfl, pk_mul, nI_add]
theorem tc_m8 (b : Nat) : nI b * 8 = nI (b * 8) := by
  rw [show (8 : Int32) = nI 8 from rfl, pk_mul]
theorem tc_8p (s : Nat) : 8 + nI s = nI (8 + s) := by
  rw [show (8 : Int32) = nI 8 from rfl, nI_add]
theorem tc_uu (f : Nat → Int32) (i : Nat) (a b : Int32) : upd (upd f i a) i b = upd f i b := by
  funext j
  simp only [upd]
  split <;> rfl
theorem tc_ff {α : Type} (f : Nat → α) (i : Nat) (a b : α) : tc_f1 (tc_f1 f i a) i b = tc_f1 f i b := by
  funext j
  simp only [tc_f1]
  split <;> rfl
theorem tc_ui {f : Nat → Int32} {b n n' : Nat} {v : Int32} : upd f (b * 5 + n) v (b * 5 + n') = if n' = n then v else f (b * 5 + n') := by
  simp only [upd]
  by_cases h : n' = n
  · rw [if_pos h, if_pos (by omega)]
  · rw [if_neg h, if_neg (by omega)]
theorem tc_ux {f : Nat → Int32} {b b' n n' : Nat} {v : Int32} (hb : b' ≠ b) (h : n < 5) (h' : n' < 5) : upd f (b * 5 + n) v (b' * 5 + n') = f (b' * 5 + n') := pk_un (by omega)
/-! X -/
def tc_XNs (T : Nat) (n : Nat) (q : tc_BS) (a1 a2 a3 a4 a5 : Int32) : Prop :=
  a1 = nI (tc_ct q.1 n T) ∧ a2 = (if q.1 0 = n then 1 else 0) ∧ a3 = q.2.1 n ∧ a4 = tc_nz (q.2.2.1 n) ∧ a5 = nI (q.2.2.2.1 n)
def tc_XN (C B T : Nat) (k : Nat → tc_BS) (held own cp be st lw : Nat → Int32) : Prop :=
  ∀ b, b < B → lw b = (k b).2.2.2.2 ∧ ∀ n, n ≤ C → tc_XNs T n (k b) (held (b * 5 + n)) (own (b * 5 + n)) (cp (b * 5 + n)) (be (b * 5 + n)) (st (b * 5 + n))
def tc_XMs (T : Nat) (k : Nat → tc_BS) (s : Nat) (x : tc_MG) (a1 a2 a3 a4 a5 a6 a7 a8 : Int32) : Prop :=
  a1 = nI x.1 ∧ a2 = tc_nz x.2.1 ∧ a3 = tc_nz x.2.2.1 ∧ a4 = tc_nz x.2.2.2.1 ∧ a5 = tc_nz x.2.2.2.2.1 ∧
    a6 = (if x.1 = 3 then nI (tc_ct (k x.2.2.1).1 (8 + s) T) else -2) ∧ a7 = (if x.1 = 3 then (if (k x.2.2.1).1 0 = 8 + s then 1 else 0) else -2) ∧ a8 = x.2.2.2.2.2
def tc_XM (S T : Nat) (k : Nat → tc_BS) (m : Nat → tc_MG) (mj mt mb mw ms mc mo md : Nat → Int32) : Prop :=
  ∀ s, s < S → tc_XMs T k s (m s) (mj s) (mt s) (mb s) (mw s) (ms s) (mc s) (mo s) (md s)
def tc_XQ (B : Nat) (L : tc_QL) (qu pd qh ql : Nat → Int32) : Prop :=
  ∀ b, b < B → ∃ h, h < 4 ∧ qh b = nI h ∧ ql b = nI (tc_qs b L).length ∧ ∀ i x, (tc_qs b L)[i]? = some x → qu (b * 4 + (h + i) % 4) = nI x.2.1 ∧ pd (b * 4 + x.2.1) = x.2.2
def tc_RX (C B T S : Nat) (k : Nat → tc_BS) (m : Nat → tc_MG) (L : tc_QL) : SX → Prop
  | (fc, fb, ft, fs, held, own, cp, be, st, qu, pd, qh, ql, lw, mj, mt, mb, mw, ms, mc, mo, md) =>
    fc = nI C ∧ fb = nI B ∧ ft = nI T ∧ fs = nI S ∧ tc_XN C B T k held own cp be st lw ∧ tc_XQ B L qu pd qh ql ∧ tc_XM S T k m mj mt mb mw ms mc mo md
theorem tc_RXe {C B T S : Nat} {k : Nat → tc_BS} {m : Nat → tc_MG} {L : tc_QL} {P : SX → Prop}
    (h : ∀ held own cp be st qu pd qh ql lw mj mt mb mw ms mc mo md : Nat → Int32, tc_XN C B T k held own cp be st lw → tc_XQ B L qu pd qh ql → tc_XM S T k m mj mt mb mw ms mc mo md →
      P (nI C, nI B, nI T, nI S, held, own, cp, be, st, qu, pd, qh, ql, lw, mj, mt, mb, mw, ms, mc, mo, md)) {u : SX} (I : tc_RX C B T S k m L u) : P u := by
  rcases u with ⟨fc, fb, ft, fs, held, own, cp, be, st, qu, pd, qh, ql, lw, mj, mt, mb, mw, ms, mc, mo, md⟩
  obtain ⟨rfl, rfl, rfl, rfl, h1, h2, h3⟩ := I
  exact h _ _ _ _ _ _ _ _ _ _ _ _ _ _ _ _ _ _ h1 h2 h3
/-! Y -/
def tc_YNs (n : Nat) (q : tc_BS) (a3 a4 a5 : Int32) : Prop := a3 = q.2.1 n ∧ a4 = tc_nz (q.2.2.1 n) ∧ a5 = nI (q.2.2.2.1 n)
def tc_YN (C B T : Nat) (k : Nat → tc_BS) (pl cp be st wr : Nat → Int32) : Prop :=
  ∀ b, b < B → wr b = (k b).2.2.2.2 ∧ (∀ i, i < T → pl (b * 8 + i) = nI ((k b).1 i)) ∧ ∀ n, n ≤ C → tc_YNs n (k b) (cp (n * 4 + b)) (be (n * 4 + b)) (st (n * 4 + b))
def tc_YMs (x : tc_MG) (a1 a2 a3 a4 a5 a6 : Int32) : Prop :=
  a1 = nI x.1 ∧ (x.1 ≠ 0 → a2 = nI x.2.1 ∧ a3 = nI x.2.2.1 ∧ (x.1 ≠ 3 → a4 = tc_nz x.2.2.2.1) ∧ (x.1 = 4 → a5 = nI x.2.2.2.2.1) ∧ (x.1 = 3 → a6 = x.2.2.2.2.2))
def tc_YM (S : Nat) (m : Nat → tc_MG) (mj mt mb mw ms md : Nat → Int32) : Prop :=
  ∀ s, s < S → tc_YMs (m s) (mj s) (mt s) (mb s) (mw s) (ms s) (md s)
def tc_YQ (L : tc_QL) (qb qc qv : Nat → Int32) : Prop := ∀ i x, L[i]? = some x → qb i = nI x.1 ∧ qc i = nI x.2.1 ∧ qv i = x.2.2
def tc_RY (C B T S : Nat) (k : Nat → tc_BS) (m : Nat → tc_MG) (L : tc_QL) : SY → Prop
  | (fc, fb, ft, fs, fe, pl, cp, be, st, wr, mj, mt, mb, mw, ms, md, qb, qc, qv) =>
    fc = nI C ∧ fb = nI B ∧ ft = nI T ∧ fs = nI S ∧ fe = nI L.length ∧ tc_YN C B T k pl cp be st wr ∧ tc_YM S m mj mt mb mw ms md ∧ tc_YQ L qb qc qv
theorem tc_RYe {C B T S : Nat} {k : Nat → tc_BS} {m : Nat → tc_MG} {L : tc_QL} {P : SY → Prop}
    (h : ∀ pl cp be st wr mj mt mb mw ms md qb qc qv : Nat → Int32, tc_YN C B T k pl cp be st wr → tc_YM S m mj mt mb mw ms md → tc_YQ L qb qc qv →
      P (nI C, nI B, nI T, nI S, nI L.length, pl, cp, be, st, wr, mj, mt, mb, mw, ms, md, qb, qc, qv)) {v : SY} (I : tc_RY C B T S k m L v) : P v := by
  rcases v with ⟨fc, fb, ft, fs, fe, pl, cp, be, st, wr, mj, mt, mb, mw, ms, md, qb, qc, qv⟩
  obtain ⟨rfl, rfl, rfl, rfl, rfl, h1, h2, h3⟩ := I
  exact h _ _ _ _ _ _ _ _ _ _ _ _ _ _ h1 h2 h3
/-! one block, one slot -/
theorem tc_XN_b {C B T b : Nat} {k : Nat → tc_BS} {q : tc_BS} {held own cp be st lw held' own' cp' be' st' lw' : Nat → Int32} (hN : tc_XN C B T k held own cp be st lw)
    (hw : lw' b = q.2.2.2.2) (h1 : ∀ n, n ≤ C → tc_XNs T n q (held' (b * 5 + n)) (own' (b * 5 + n)) (cp' (b * 5 + n)) (be' (b * 5 + n)) (st' (b * 5 + n)))
    (h2 : ∀ b' n, b' < B → b' ≠ b → n ≤ C → lw' b' = lw b' ∧ held' (b' * 5 + n) = held (b' * 5 + n) ∧ own' (b' * 5 + n) = own (b' * 5 + n) ∧ cp' (b' * 5 + n) = cp (b' * 5 + n) ∧ be' (b' * 5 + n) = be (b' * 5 + n) ∧ st' (b' * 5 + n) = st (b' * 5 + n)) :
    tc_XN C B T (tc_f1 k b q) held' own' cp' be' st' lw' := by
  intro b' hb'
  by_cases e : b' = b
  · rw [e, tc_f1s]; exact ⟨hw, h1⟩
  · rw [tc_f1n e]
    refine ⟨(h2 b' 0 hb' e (by omega)).1.trans (hN b' hb').1, fun n hn => ?_⟩
    obtain ⟨_, g1, g2, g3, g4, g5⟩ := h2 b' n hb' e hn
    rw [g1, g2, g3, g4, g5]
    exact (hN b' hb').2 n hn
theorem tc_XM_k {S T : Nat} {k k' : Nat → tc_BS} {s : Nat} {x : tc_MG} {a1 a2 a3 a4 a5 a6 a7 a8 : Int32}
    (hk : x.1 = 3 → tc_ct (k' x.2.2.1).1 (8 + s) T = tc_ct (k x.2.2.1).1 (8 + s) T ∧ ((k' x.2.2.1).1 0 = 8 + s ↔ (k x.2.2.1).1 0 = 8 + s)) (h : tc_XMs T k s x a1 a2 a3 a4 a5 a6 a7 a8) : tc_XMs T k' s x a1 a2 a3 a4 a5 a6 a7 a8 := by
  obtain ⟨h1, h2, h3, h4, h5, h6, h7, h8⟩ := h
  refine ⟨h1, h2, h3, h4, h5, ?_, ?_, h8⟩
  · rw [h6]
    by_cases e : x.1 = 3
    · rw [if_pos e, if_pos e, (hk e).1]
    · rw [if_neg e, if_neg e]
  · rw [h7]
    by_cases e : x.1 = 3
    · rw [if_pos e, if_pos e]
      simp only [(hk e).2]
    · rw [if_neg e, if_neg e]
theorem tc_XM_put {S T s : Nat} {k k' : Nat → tc_BS} {m : Nat → tc_MG} {x : tc_MG} {mj mt mb mw ms mc mo md : Nat → Int32} {a1 a2 a3 a4 a5 a6 a7 a8 : Int32} (hM : tc_XM S T k m mj mt mb mw ms mc mo md)
    (hk : ∀ s', s' < S → s' ≠ s → (m s').1 = 3 → tc_ct (k' (m s').2.2.1).1 (8 + s') T = tc_ct (k (m s').2.2.1).1 (8 + s') T ∧ ((k' (m s').2.2.1).1 0 = 8 + s' ↔ (k (m s').2.2.1).1 0 = 8 + s'))
    (hx : tc_XMs T k' s x a1 a2 a3 a4 a5 a6 a7 a8) : tc_XM S T k' (tc_f1 m s x) (upd mj s a1) (upd mt s a2) (upd mb s a3) (upd mw s a4) (upd ms s a5) (upd mc s a6) (upd mo s a7) (upd md s a8) := by
  intro s' hs'
  by_cases e : s' = s
  · rw [e, tc_f1s]; simp only [pk_us]; exact hx
  · rw [tc_f1n e]; simp only [pk_un e]; exact tc_XM_k (S := S) (hk s' hs' e) (hM s' hs')
/-- a block's places change in such a way that other slots see the same -/
theorem tc_keepmv {k : Nat → tc_BS} {q : tc_BS} {b T s' bb : Nat} (h1 : tc_ct q.1 (8 + s') T = tc_ct (k b).1 (8 + s') T) (h2 : q.1 0 = 8 + s' ↔ (k b).1 0 = 8 + s') :
    tc_ct (tc_f1 k b q bb).1 (8 + s') T = tc_ct (k bb).1 (8 + s') T ∧ ((tc_f1 k b q bb).1 0 = 8 + s' ↔ (k bb).1 0 = 8 + s') := by
  by_cases e : bb = b
  · rw [e, tc_f1s]; exact ⟨h1, h2⟩
  · rw [tc_f1n e]; exact ⟨rfl, Iff.rfl⟩
theorem tc_mv0 {p : Nat → Nat} {x y z i : Nat} (h1 : z ≠ x) (h2 : z ≠ y) : tc_mv p x y i = z ↔ p i = z := by
  simp only [tc_mv]
  split <;> omega
theorem tc_XMs_E (T : Nat) (k : Nat → tc_BS) (s : Nat) : tc_XMs T k s tc_EMP 0 (-2) (-2) (-2) (-2) (-2) (-2) (-2) :=
  ⟨rfl, tc_nzN.symm, tc_nzN.symm, tc_nzN.symm, tc_nzN.symm, rfl, rfl, rfl⟩
def tc_CF (C B T S : Nat) : Prop := 2 ≤ C ∧ C ≤ 4 ∧ 1 ≤ B ∧ B ≤ 4 ∧ 1 ≤ T ∧ T ≤ 8 ∧ 8 ≤ S ∧ S ≤ 32
theorem tc_RYi {C B T S : Nat} {k : Nat → tc_BS} {m : Nat → tc_MG} {L : tc_QL} {P : SY → Prop}
    (h : ∀ pl cp be st wr mj mt mb mw ms md qb qc qv : Nat → Int32, tc_YN C B T k pl cp be st wr → tc_YM S m mj mt mb mw ms md → tc_YQ L qb qc qv →
      P (nI C, nI B, nI T, nI S, nI L.length, pl, cp, be, st, wr, mj, mt, mb, mw, ms, md, qb, qc, qv)) : ∀ v : SY, tc_RY C B T S k m L v → P v := fun _ I => tc_RYe h I
theorem tc_RXi {C B T S : Nat} {k : Nat → tc_BS} {m : Nat → tc_MG} {L : tc_QL} {P : SX → Prop}
    (h : ∀ held own cp be st qu pd qh ql lw mj mt mb mw ms mc mo md : Nat → Int32, tc_XN C B T k held own cp be st lw → tc_XQ B L qu pd qh ql → tc_XM S T k m mj mt mb mw ms mc mo md →
      P (nI C, nI B, nI T, nI S, held, own, cp, be, st, qu, pd, qh, ql, lw, mj, mt, mb, mw, ms, mc, mo, md)) : ∀ u : SX, tc_RX C B T S k m L u → P u := fun _ I => tc_RXe h I
end
section
/-! X: the small methods -/
section
variable {C B T S : Nat} {k : Nat → tc_BS} {m : Nat → tc_MG} {L : tc_QL} {u : SX} {s b n d y : Nat}
theorem tx_clear {post : SX → Prop} (hc : tc_CF C B T S) (hs : s < S) (hR : tc_RX C B T S k m L u) (H : ∀ u', tc_RX C B T S k (tc_f1 m s tc_EMP) L u' → post u') : wpX_clear post u (nI s) := by
  obtain ⟨c1, c2, b1, b2, t1, t2, s1, s2⟩ := hc
  refine tc_RXe (P := fun u => wpX_clear post u (nI s)) ?_ hR
  intro hA oA cA bA sA qA pA hQ lQ wA mj mt mb mw ms mc mo md hN hQ' hM
  simp (disch := omega) only [wpX_clear, tc_vin, tc_cl, forall_eq, true_and]
  exact H _ ⟨rfl, rfl, rfl, rfl, hN, hQ', tc_XM_put hM (fun _ _ _ _ => ⟨rfl, Iff.rfl⟩) (tc_XMs_E T k s)⟩
theorem tx_fe2 {post : Int32 → Prop} {hA oA cA bA sA qA pA hQ lQ wA mj mt mb mw ms mc mo md : Nat → Int32} (hc : tc_CF C B T S) (hM : tc_XM S T k m mj mt mb mw ms mc mo md) (hk : ∀ s, s < S → (m s).1 < 5) : ∀ f i, i + f = S →
    post (tc_mI (tc_fi (tc_kk m) 0 f i)) → wX_firstEmpty_2 post (nI C) (nI B) (nI T) (nI S) hA oA cA bA sA qA pA hQ lQ wA mj mt mb mw ms mc mo md (f + 1) (nI i)
  | 0, i, h, hp => by
    obtain ⟨c1, c2, b1, b2, t1, t2, s1, s2⟩ := hc
    exact br_t (nI_le (by omega) (by omega)) hp
  | f + 1, i, h, hp => by
    have hc' := hc
    obtain ⟨c1, c2, b1, b2, t1, t2, s1, s2⟩ := hc
    refine br_f (nI_ge (by omega) (by omega)) ⟨tc_vin (by omega) (by omega), ?_⟩
    rw [tc_cl (by omega), (hM i (by omega)).1]
    have := hk i (by omega)
    by_cases e : (m i).1 = 0
    · rw [tc_fi_t (show tc_kk m i = 0 from e), tc_mIl (by omega)] at hp
      exact br_t (by rw [e]; rfl) hp
    · rw [tc_fi_n (show ¬ tc_kk m i = 0 from e)] at hp
      refine br_f (fun z => e ((tc_eq0 (by omega)).mp z)) (nm_r (nI_1 i) ?_)
      exact tx_fe2 hc' hM hk f (i + 1) (by omega) hp
theorem tx_firstEmpty {post : Int32 → Prop} (hc : tc_CF C B T S) (hk : ∀ s, s < S → (m s).1 < 5) (hR : tc_RX C B T S k m L u) (H : post (tc_mI (tc_fe S m))) : wpX_firstEmpty post u := by
  refine tc_RXe (P := fun u => wpX_firstEmpty post u) ?_ hR
  intro hA oA cA bA sA qA pA hQ lQ wA mj mt mb mw ms mc mo md hN hQ' hM
  exact ⟨S + 1, tx_fe2 hc hM hk S 0 (by omega) H⟩
theorem tx_fr4 {post : Int32 → Prop} {hA oA cA bA sA qA pA hQ lQ wA mj mt mb mw ms mc mo md : Nat → Int32} (hc : tc_CF C B T S) (hM : tc_XM S T k m mj mt mb mw ms mc mo md) (hk : ∀ s, s < S → (m s).1 < 5) (hp : post (nI (tc_fr S m))) : ∀ f i, i + f = S →
    wX_free_4 post (nI C) (nI B) (nI T) (nI S) hA oA cA bA sA qA pA hQ lQ wA mj mt mb mw ms mc mo md (f + 1) (nI (tc_ct (tc_kk m) 0 i)) (nI i)
  | 0, i, h => by
    obtain ⟨c1, c2, b1, b2, t1, t2, s1, s2⟩ := hc
    have e : i = S := by omega
    subst e
    exact br_t (nI_le (by omega) (by omega)) hp
  | f + 1, i, h => by
    have hc' := hc
    obtain ⟨c1, c2, b1, b2, t1, t2, s1, s2⟩ := hc
    refine br_f (nI_ge (by omega) (by omega)) ⟨tc_vin (by omega) (by omega), ?_⟩
    rw [tc_cl (by omega), (hM i (by omega)).1]
    have := hk i (by omega)
    by_cases e : (m i).1 = 0
    · exact br_t (by rw [e]; rfl) (nm_r (nI_1 _) (nm_r (nI_1 i) (by rw [← tc_ct_t (show tc_kk m i = 0 from e)]; exact tx_fr4 hc' hM hk hp f (i + 1) (by omega))))
    · exact br_f (fun z => e ((tc_eq0 (by omega)).mp z)) (nm_r (nI_1 i) (by rw [← tc_ct_n (show ¬ tc_kk m i = 0 from e)]; exact tx_fr4 hc' hM hk hp f (i + 1) (by omega)))
theorem tx_free {post : Int32 → Prop} (hc : tc_CF C B T S) (hk : ∀ s, s < S → (m s).1 < 5) (hR : tc_RX C B T S k m L u) (H : post (nI (tc_fr S m))) : wpX_free post u := by
  refine tc_RXe (P := fun u => wpX_free post u) ?_ hR
  intro hA oA cA bA sA qA pA hQ lQ wA mj mt mb mw ms mc mo md hN hQ' hM
  exact ⟨S + 1, tx_fr4 hc hM hk H S 0 (by omega)⟩
theorem tx_putRequest {post : SX → Prop} {a : Nat} (hc : tc_CF C B T S) (hs : s < S) (ha : a ≠ 3) (hd : d < 9999) (hb : b < 9999) (hR : tc_RX C B T S k m L u)
    (H : ∀ u', tc_RX C B T S k (tc_f1 m s (a, d, b, y, 9999, -2)) L u' → post u') : wpX_putRequest post u (nI s) (nI a) (nI d) (nI b) (tc_nz y) := by
  obtain ⟨c1, c2, b1, b2, t1, t2, s1, s2⟩ := hc
  refine tc_RXe (P := fun u => wpX_putRequest post u (nI s) (nI a) (nI d) (nI b) (tc_nz y)) ?_ hR
  intro hA oA cA bA sA qA pA hQ lQ wA mj mt mb mw ms mc mo md hN hQ' hM
  simp (disch := omega) only [wpX_putRequest, wpX_clear, tc_vin, tc_cl, tc_0le, forall_eq, true_and, forall_const, not_true, false_implies, and_true, tc_uu]
  refine H _ ⟨rfl, rfl, rfl, rfl, hN, hQ', tc_XM_put hM (fun _ _ _ _ => ⟨rfl, Iff.rfl⟩) ⟨rfl, (tc_nzl hd).symm, (tc_nzl hb).symm, rfl, tc_nzN.symm, ?_, ?_, rfl⟩⟩
  · exact (if_neg ha).symm
  · exact (if_neg ha).symm
theorem tx_putNotice {post : SX → Prop} {st : Nat} (hc : tc_CF C B T S) (hs : s < S) (hd : d < 9999) (hb : b < 9999) (hst : st < 9999) (hR : tc_RX C B T S k m L u)
    (H : ∀ u', tc_RX C B T S k (tc_f1 m s (4, d, b, y, st, -2)) L u' → post u') : wpX_putNotice post u (nI s) (nI d) (nI b) (nI st) (tc_nz y) := by
  obtain ⟨c1, c2, b1, b2, t1, t2, s1, s2⟩ := hc
  refine tc_RXe (P := fun u => wpX_putNotice post u (nI s) (nI d) (nI b) (nI st) (tc_nz y)) ?_ hR
  intro hA oA cA bA sA qA pA hQ lQ wA mj mt mb mw ms mc mo md hN hQ' hM
  simp (disch := omega) only [wpX_putNotice, wpX_putRequest, wpX_clear, tc_vin, tc_cl, tc_0le, forall_eq, true_and, forall_const, not_true, false_implies, and_true, tc_uu]
  exact H _ ⟨rfl, rfl, rfl, rfl, hN, hQ', tc_XM_put hM (fun _ _ _ _ => ⟨rfl, Iff.rfl⟩) ⟨rfl, (tc_nzl hd).symm, (tc_nzl hb).symm, rfl, (tc_nzl hst).symm, rfl, rfl, rfl⟩⟩
end
end
section
/-! X: tokens leave and arrive -/
section
variable {C B T S : Nat} {k : Nat → tc_BS} {m : Nat → tc_MG} {L : tc_QL} {u : SX} {s b n d y : Nat}
theorem tx_sendN {hA oA cA bA sA wA : Nat → Int32} {p e t : Nat → Nat} {c : Nat → Int32} {w : Int32} (hc : tc_CF C B T S) (hb : b < B) (hn : n ≤ C) (hk : k b = (p, c, e, t, w)) (hN : tc_XN C B T k hA oA cA bA sA wA) :
    tc_XN C B T (tc_f1 k b (tc_mv p n (8 + s), tc_f1 c n (-2), e, t, w)) (upd hA (b * 5 + n) 0) (upd oA (b * 5 + n) 0) (upd cA (b * 5 + n) (-2)) bA sA wA := by
  obtain ⟨c1, c2, b1, b2, t1, t2, s1, s2⟩ := hc
  have g := hN b hb
  rw [hk] at g
  refine tc_XN_b hN g.1 (fun n' hn' => ?_) (fun b' n' _ hb' hn' => ?_)
  · have g' := g.2 n' hn'
    by_cases e' : n' = n
    · subst e'
      simp only [tc_ui, if_true]
      exact ⟨by show 0 = nI (tc_ct (tc_mv p n' (8 + s)) n' T); rw [tc_ct_mvf (by omega)]; rfl, by
        show 0 = if tc_mv p n' (8 + s) 0 = n' then (1 : Int32) else 0
        rw [if_neg]
        simp only [tc_mv]
        split <;> omega, (tc_f1s c n' (-2)).symm, g'.2.2.2.1, g'.2.2.2.2⟩
    · simp only [tc_ui, if_neg e']
      refine ⟨?_, ?_, ?_, g'.2.2.2.1, g'.2.2.2.2⟩
      · show _ = nI (tc_ct (tc_mv p n (8 + s)) n' T)
        rw [tc_ct_mvn e' (by omega)]; exact g'.1
      · show _ = if tc_mv p n (8 + s) 0 = n' then (1 : Int32) else 0
        simp only [tc_mv0 (p := p) (i := 0) e' (show n' ≠ 8 + s by omega)]
        exact g'.2.1
      · show _ = tc_f1 c n (-2) n'
        rw [tc_f1n e']; exact g'.2.2.1
  · simp (disch := omega) only [tc_ux, and_self]
theorem tx_sendAll {post : SX → Prop} {x : Nat} (hc : tc_CF C B T S) (hs : s < S) (hb : b < B) (hn : n ≤ C) (hx : x < 9999) (hz : tc_ct (k b).1 (8 + s) T = 0) (hR : tc_RX C B T S k m L u)
    (H : ∀ u', tc_RX C B T S (tc_f1 k b (tc_sB s n x b (k b)).1) (tc_f1 m s (tc_sB s n x b (k b)).2) L u' → post u') : wpX_sendAll post u (nI s) (nI n) (nI b) (nI x) := by
  have hc' := hc
  obtain ⟨c1, c2, b1, b2, t1, t2, s1, s2⟩ := hc
  refine tc_RXe (P := fun u => wpX_sendAll post u (nI s) (nI n) (nI b) (nI x)) ?_ hR
  intro hA oA cA bA sA qA pA hQ lQ wA mj mt mb mw ms mc mo md hN hQ' hM
  rcases hk : k b with ⟨p, c, e, t, w⟩
  rw [hk] at H hz
  have g := hN b hb
  rw [hk] at g
  have g' := g.2 n hn
  have g1 : hA (b * 5 + n) = nI (tc_ct p n T) := g'.1
  have g2 : oA (b * 5 + n) = if p 0 = n then 1 else 0 := g'.2.1
  have g3 : cA (b * 5 + n) = c n := g'.2.2.1
  have hp0 : p 0 ≠ 8 + s := fun z => by
    have := tc_ct_pos (p := p) (x := 8 + s) T (show 0 < T by omega) z
    simp only at hz
    omega
  have eM : ∀ v : Int32, v = (if p 0 = n then c n else -2) → tc_XM S T (tc_f1 k b (tc_mv p n (8 + s), tc_f1 c n (-2), e, t, w)) (tc_f1 m s (3, x, b, 9999, 9999, if p 0 = n then c n else -2))
      (upd mj s 3) (upd mt s (nI x)) (upd mb s (nI b)) (upd mw s (-2)) (upd ms s (-2)) (upd mc s (nI (tc_ct p n T))) (upd mo s (if p 0 = n then 1 else 0)) (upd md s v) := by
    intro v hv
    refine tc_XM_put hM (fun s' _ hs' _ => tc_keepmv ?_ ?_) ⟨rfl, (tc_nzl hx).symm, (tc_nzl (show b < 9999 by omega)).symm, tc_nzN.symm, tc_nzN.symm, ?_, ?_, hv⟩
    · rw [hk]; exact tc_ct_mvn (by omega) (by omega) T
    · rw [hk]; exact tc_mv0 (by omega) (by omega)
    · show _ = nI (tc_ct (tc_f1 k b (tc_mv p n (8 + s), tc_f1 c n (-2), e, t, w) b).1 (8 + s) T)
      rw [tc_f1s]
      show _ = nI (tc_ct (tc_mv p n (8 + s)) (8 + s) T)
      simp only at hz
      rw [tc_ct_mvt (by omega), hz, Nat.add_zero]
    · show _ = if (tc_f1 k b (tc_mv p n (8 + s), tc_f1 c n (-2), e, t, w) b).1 0 = 8 + s then (1 : Int32) else 0
      rw [tc_f1s]
      show _ = if tc_mv p n (8 + s) 0 = 8 + s then (1 : Int32) else 0
      by_cases z : p 0 = n
      · rw [if_pos z, tc_mvt z, if_pos rfl]
      · rw [if_neg z, tc_mvn z, if_neg hp0]
  by_cases z : p 0 = n
  · rw [if_pos z] at g2
    simp (disch := omega) only [wpX_sendAll, wX_sendAll_36, wpX_cell, wpX_putTokens, wpX_putRequest, wpX_clear, tc_c5, g1, g2, g3, tc_vin, tc_cl, tc_0le, forall_eq, true_and, forall_const, not_true, false_implies, and_true, tc_uu]
    have h5 := eM (c n) (by rw [if_pos z])
    rw [if_pos z, if_pos z] at h5
    refine H _ ⟨rfl, rfl, rfl, rfl, tx_sendN hc' hb hn hk hN, hQ', ?_⟩
    simp only [tc_sB, if_pos z]
    exact h5
  · rw [if_neg z] at g2
    simp (disch := omega) only [wpX_sendAll, wX_sendAll_36, wpX_cell, wpX_putTokens, wpX_putRequest, wpX_clear, tc_c5, g1, g2, g3, tc_vin, tc_cl, tc_0le, forall_eq, true_and, forall_const, not_true, false_implies, and_true, tc_uu, show ((0 : Int32) = 1) = False from eq_false (by decide), not_false_eq_true]
    have h5 := eM (-2) (by rw [if_neg z])
    rw [if_neg z, if_neg z] at h5
    refine H _ ⟨rfl, rfl, rfl, rfl, tx_sendN hc' hb hn hk hN, hQ', ?_⟩
    simp only [tc_sB, if_neg z]
    exact h5
theorem tx_takeN {hA oA cA bA sA wA : Nat → Int32} {p e t : Nat → Nat} {c : Nat → Int32} {w v : Int32} (hc : tc_CF C B T S) (hb : b < B) (hd : d ≤ C) (hk : k b = (p, c, e, t, w)) (hN : tc_XN C B T k hA oA cA bA sA wA) :
    tc_XN C B T (tc_f1 k b (tc_mv p (8 + s) d, if v = -2 then c else tc_f1 c d v, e, t, w)) (upd hA (b * 5 + d) (nI (tc_ct p d T + tc_ct p (8 + s) T))) (if p 0 = 8 + s then upd oA (b * 5 + d) 1 else oA) (if v = -2 then cA else upd cA (b * 5 + d) v) bA sA wA := by
  obtain ⟨c1, c2, b1, b2, t1, t2, s1, s2⟩ := hc
  have g := hN b hb
  rw [hk] at g
  refine tc_XN_b hN g.1 (fun n' hn' => ?_) (fun b' n' _ hb' hn' => ?_)
  · have g' := g.2 n' hn'
    refine ⟨?_, ?_, ?_, g'.2.2.2.1, g'.2.2.2.2⟩
    · rw [tc_ui]
      show _ = nI (tc_ct (tc_mv p (8 + s) d) n' T)
      by_cases e' : n' = d
      · rw [if_pos e', e', tc_ct_mvt (by omega), Nat.add_comm]
      · rw [if_neg e', tc_ct_mvn (by omega) e']; exact g'.1
    · show _ = if tc_mv p (8 + s) d 0 = n' then (1 : Int32) else 0
      by_cases z : p 0 = 8 + s
      · rw [if_pos z, tc_mvt z, tc_ui]
        by_cases e' : n' = d
        · rw [if_pos e', if_pos e'.symm]
        · rw [if_neg e', if_neg (fun q => e' q.symm)]
          refine g'.2.1.trans ?_
          show (if p 0 = n' then (1 : Int32) else 0) = 0
          rw [if_neg (by omega)]
      · rw [if_neg z, tc_mvn z]; exact g'.2.1
    · show _ = (if v = -2 then c else tc_f1 c d v) n'
      by_cases hv : v = -2
      · rw [if_pos hv, if_pos hv]; exact g'.2.2.1
      · rw [if_neg hv, if_neg hv, tc_ui]
        by_cases e' : n' = d
        · rw [if_pos e', e', tc_f1s]
        · rw [if_neg e', tc_f1n e']; exact g'.2.2.1
  · refine ⟨rfl, ?_, ?_, ?_, rfl, rfl⟩
    · rw [tc_ux hb' (by omega) (by omega)]
    · split
      · rw [tc_ux hb' (by omega) (by omega)]
      · rfl
    · split
      · rfl
      · rw [tc_ux hb' (by omega) (by omega)]
theorem tx_takeIn {post : SX → Prop} {yy st : Nat} {v : Int32} (hc : tc_CF C B T S) (hs : s < S) (hb : b < B) (hd : d ≤ C) (hm : m s = (3, d, b, yy, st, v)) (hR : tc_RX C B T S k m L u)
    (H : ∀ u', tc_RX C B T S (tc_f1 k b (tc_tB s d v (k b))) (tc_f1 m s tc_EMP) L u' → post u') : wpX_takeIn post u (nI s) := by
  have hc' := hc
  obtain ⟨c1, c2, b1, b2, t1, t2, s1, s2⟩ := hc
  refine tc_RXe (P := fun u => wpX_takeIn post u (nI s)) ?_ hR
  intro hA oA cA bA sA qA pA hQ lQ wA mj mt mb mw ms mc mo md hN hQ' hM
  rcases hk : k b with ⟨p, c, e, t, w⟩
  rw [hk] at H
  have hM' := hM s hs
  rw [hm] at hM'
  obtain ⟨q1, q2, q3, q4, q5, q6, q7, q8⟩ := hM'
  simp only [hk, if_true] at q1 q2 q3 q4 q5 q6 q7 q8
  rw [tc_nzl (by omega)] at q2 q3
  have g := hN b hb
  rw [hk] at g
  have g1 : hA (b * 5 + d) = nI (tc_ct p d T) := (g.2 d hd).1
  have eM : tc_XM S T (tc_f1 k b (tc_mv p (8 + s) d, if v = -2 then c else tc_f1 c d v, e, t, w)) (tc_f1 m s tc_EMP)
      (upd mj s 0) (upd mt s (-2)) (upd mb s (-2)) (upd mw s (-2)) (upd ms s (-2)) (upd mc s (-2)) (upd mo s (-2)) (upd md s (-2)) := by
    refine tc_XM_put hM (fun s' _ hs' _ => tc_keepmv ?_ ?_) (tc_XMs_E T _ s)
    · rw [hk]; exact tc_ct_mvn (by omega) (by omega) T
    · rw [hk]; exact tc_mv0 (by omega) (by omega)
  have eN := tx_takeN (s := s) (v := v) hc' hb hd hk hN
  have ad : nI (tc_ct p d T) + nI (tc_ct p (8 + s) T) = nI (tc_ct p d T + tc_ct p (8 + s) T) := nI_add _ _
  have n01 : ((0 : Int32) = 1) = False := eq_false (by decide)
  by_cases z : p 0 = 8 + s
  · rw [if_pos z] at q7 eN
    by_cases hv : v = -2
    · rw [hv] at q8
      rw [if_pos hv] at eN eM
      rw [if_pos hv] at eN
      simp (disch := omega) only [wpX_takeIn, wX_takeIn_49, wX_takeIn_72, wpX_cell, wpX_clear, tc_c5, g1, q2, q3, q6, q7, q8, ad, tc_vin, tc_cl, forall_eq, true_and, forall_const, not_true, false_implies, and_true]
      refine H _ ⟨rfl, rfl, rfl, rfl, ?_, hQ', ?_⟩ <;> simp only [tc_tB, if_pos hv]
      · exact eN
      · exact eM
    · have q8' : (v = -2) = False := eq_false hv
      rw [if_neg hv] at eN eM
      rw [if_neg hv] at eN
      simp (disch := omega) only [wpX_takeIn, wX_takeIn_49, wX_takeIn_72, wpX_cell, wpX_clear, tc_c5, g1, q2, q3, q6, q7, q8, q8', ad, tc_vin, tc_cl, forall_eq, true_and, forall_const, not_true, false_implies, and_true, not_false_eq_true]
      refine H _ ⟨rfl, rfl, rfl, rfl, ?_, hQ', ?_⟩ <;> simp only [tc_tB, if_neg hv]
      · exact eN
      · exact eM
  · rw [if_neg z] at q7 eN
    by_cases hv : v = -2
    · rw [hv] at q8
      rw [if_pos hv] at eN eM
      rw [if_pos hv] at eN
      simp (disch := omega) only [wpX_takeIn, wX_takeIn_49, wX_takeIn_72, wpX_cell, wpX_clear, tc_c5, g1, q2, q3, q6, q7, q8, n01, ad, tc_vin, tc_cl, forall_eq, true_and, forall_const, not_true, false_implies, and_true, not_false_eq_true]
      refine H _ ⟨rfl, rfl, rfl, rfl, ?_, hQ', ?_⟩ <;> simp only [tc_tB, if_pos hv]
      · exact eN
      · exact eM
    · have q8' : (v = -2) = False := eq_false hv
      rw [if_neg hv] at eN eM
      rw [if_neg hv] at eN
      simp (disch := omega) only [wpX_takeIn, wX_takeIn_49, wX_takeIn_72, wpX_cell, wpX_clear, tc_c5, g1, q2, q3, q6, q7, q8, q8', n01, ad, tc_vin, tc_cl, forall_eq, true_and, forall_const, not_true, false_implies, and_true, not_false_eq_true]
      refine H _ ⟨rfl, rfl, rfl, rfl, ?_, hQ', ?_⟩ <;> simp only [tc_tB, if_neg hv]
      · exact eN
      · exact eM
end
end
section
/-! X: delivery by kind -/
section
variable {C B T S : Nat} {k : Nat → tc_BS} {m : Nat → tc_MG} {L : tc_QL} {u : SX} {s b n d y st : Nat} {v : Int32}
theorem tc_n01 : ((0 : Int32) = 1) = False := eq_false (by decide)
theorem tc_n10 : ((1 : Int32) = 0) = False := eq_false (by decide)
theorem tx_dTok {post : SX → Prop} (hc : tc_CF C B T S) (hs : s < S) (hb : b < B) (hd : d ≤ C) (hm : m s = (3, d, b, y, st, v)) (he : (k b).2.2.1 d < C ∨ (k b).2.2.1 d = 9999) (hR : tc_RX C B T S k m L u)
    (H : ∀ u', tc_RX C B T S (tc_f1 k b (tc_dB T s (k b) (m s)).1) (tc_f1 m s (tc_dB T s (k b) (m s)).2) L u' → post u') : wpX_deliverTokens post u (nI s) := by
  have hc' := hc
  obtain ⟨c1, c2, b1, b2, t1, t2, s1, s2⟩ := hc
  rw [hm] at H
  have hT : (tc_dB T s (k b) (3, d, b, y, st, v)) = if (k b).2.2.1 d = 9999 ∨ (k b).2.2.1 d = d then (tc_tB s d v (k b), tc_EMP) else (k b, (3, (k b).2.2.1 d, b, y, st, v)) := by
    rcases k b with ⟨p, c, e, t, w⟩
    simp only [tc_dB, if_true]
  rw [hT] at H
  have hR' := hR
  refine tc_RXe (P := fun u => tc_RX C B T S k m L u → wpX_deliverTokens post u (nI s)) ?_ hR hR'
  intro hA oA cA bA sA qA pA hQ lQ wA mj mt mb mw ms mc mo md hN hQ' hM hR''
  have hM' := hM s hs
  rw [hm] at hM'
  obtain ⟨q1, q2, q3, q4, q5, q6, q7, q8⟩ := hM'
  simp only [if_true] at q1 q2 q3 q4 q5 q6 q7 q8
  rw [tc_nzl (by omega)] at q2 q3
  have g4 : bA (b * 5 + d) = tc_nz ((k b).2.2.1 d) := ((hN b hb).2 d hd).2.2.2.1
  simp (disch := omega) only [wpX_deliverTokens, wpX_cell, tc_c5, q2, q3, g4, tc_vin, tc_cl, forall_eq, true_and, tc_nz_m2, tc_nz_nI]
  by_cases h1 : (k b).2.2.1 d = 9999
  · rw [if_pos (Or.inl h1)] at H
    exact br_t h1 (tx_takeIn hc' hs hb hd hm hR'' H)
  · refine br_f h1 ?_
    by_cases h2 : (k b).2.2.1 d = d
    · rw [if_pos (Or.inr h2)] at H
      exact br_t h2 (tx_takeIn hc' hs hb hd hm hR'' H)
    · rw [if_neg (by omega)] at H
      refine br_f h2 (H _ ⟨rfl, rfl, rfl, rfl, ?_, hQ', ?_⟩)
      · rw [tc_f1id]; exact hN
      · rw [tc_f1id]
        intro s' hs'
        by_cases e' : s' = s
        · rw [e', tc_f1s, pk_us]
          exact ⟨q1, rfl, by rw [q3]; exact (tc_nzl (by omega)).symm, q4, q5, q6, q7, q8⟩
        · rw [tc_f1n e', pk_un e']; exact hM s' hs'
theorem tx_hearN {hA oA cA bA sA wA : Nat → Int32} {p e t : Nat → Nat} {c : Nat → Int32} {w : Int32} (hc : tc_CF C B T S) (hb : b < B) (hd : d ≤ C) (hk : k b = (p, c, e, t, w)) (hN : tc_XN C B T k hA oA cA bA sA wA) :
    tc_XN C B T (tc_f1 k b (p, c, tc_f1 e d y, tc_f1 t d st, w)) hA oA cA (upd bA (b * 5 + d) (tc_nz y)) (upd sA (b * 5 + d) (nI st)) wA := by
  obtain ⟨c1, c2, b1, b2, t1, t2, s1, s2⟩ := hc
  have g := hN b hb
  rw [hk] at g
  refine tc_XN_b hN g.1 (fun n' hn' => ?_) (fun b' n' _ hb' hn' => ?_)
  · have g' := g.2 n' hn'
    refine ⟨g'.1, g'.2.1, g'.2.2.1, ?_, ?_⟩
    · show _ = tc_nz (tc_f1 e d y n')
      rw [tc_ui]
      by_cases e' : n' = d
      · rw [if_pos e', e', tc_f1s]
      · rw [if_neg e', tc_f1n e']; exact g'.2.2.2.1
    · show _ = nI (tc_f1 t d st n')
      rw [tc_ui]
      by_cases e' : n' = d
      · rw [if_pos e', e', tc_f1s]
      · rw [if_neg e', tc_f1n e']; exact g'.2.2.2.2
  · simp (disch := omega) only [tc_ux, and_self]
theorem tx_dNot {post : SX → Prop} (hc : tc_CF C B T S) (hs : s < S) (hb : b < B) (hd : d ≤ C) (hy : y < C ∨ y = 9999) (hst : st < 9999) (htd : (k b).2.2.2.1 d < 9999) (hz : tc_ct (k b).1 (8 + s) T = 0) (hm : m s = (4, d, b, y, st, v)) (hR : tc_RX C B T S k m L u)
    (H : ∀ u', tc_RX C B T S (tc_f1 k b (tc_dB T s (k b) (m s)).1) (tc_f1 m s (tc_dB T s (k b) (m s)).2) L u' → post u') : wpX_deliverNotice post u (nI s) := by
  have hc' := hc
  obtain ⟨c1, c2, b1, b2, t1, t2, s1, s2⟩ := hc
  rw [hm] at H
  rcases hk : k b with ⟨p, c, e, t, w⟩
  rw [hk] at H htd hz
  simp only [tc_dB, show ¬ ((4 : Nat) = 3) by decide, if_false, if_true] at H
  simp only at htd hz
  refine tc_RXe (P := fun u => wpX_deliverNotice post u (nI s)) ?_ hR
  intro hA oA cA bA sA qA pA hQ lQ wA mj mt mb mw ms mc mo md hN hQ' hM
  have hM' := hM s hs
  rw [hm] at hM'
  obtain ⟨q1, q2, q3, q4, q5, q6, q7, q8⟩ := hM'
  simp only at q2 q3 q4 q5
  rw [tc_nzl (by omega)] at q2 q3 q5
  have g := (hN b hb).2 d hd
  rw [hk] at g
  have g1 : hA (b * 5 + d) = nI (tc_ct p d T) := g.1
  have g5 : sA (b * 5 + d) = nI (t d) := g.2.2.2.2
  have hct := tc_ct_le p d T
  have eM : ∀ q : tc_BS, q.1 = p → tc_XM S T (tc_f1 k b q) (tc_f1 m s tc_EMP)
      (upd mj s 0) (upd mt s (-2)) (upd mb s (-2)) (upd mw s (-2)) (upd ms s (-2)) (upd mc s (-2)) (upd mo s (-2)) (upd md s (-2)) := by
    intro q hq
    refine tc_XM_put hM (fun s' _ hs' _ => tc_keepmv ?_ ?_) (tc_XMs_E T _ s)
    · rw [hk, hq]
    · rw [hk, hq]
  have eN := tx_hearN (y := y) (st := st) hc' hb hd hk hN
  simp (disch := omega) only [wpX_deliverNotice, wpX_cell, wpX_clear, tc_c5, q2, q3, q4, q5, g1, g5, tc_vin, tc_cl, forall_eq, true_and, tc_lt, tc_nz_m2, tc_nz_nI, tc_le0]
  by_cases h1 : st ≤ t d
  · rw [if_pos h1] at H
    refine br_f (by omega) (H _ ⟨rfl, rfl, rfl, rfl, ?_, hQ', eM _ rfl⟩)
    rw [← hk, tc_f1id]; exact hN
  · rw [if_neg h1] at H
    refine br_t (by omega) ?_
    have R1 := (show tc_RX C B T S (tc_f1 k b (p, c, tc_f1 e d y, tc_f1 t d st, w)) (tc_f1 m s tc_EMP) L (nI C, nI B, nI T, nI S, hA, oA, cA, upd bA (b * 5 + d) (tc_nz y), upd sA (b * 5 + d) (nI st), qA, pA, hQ, lQ, wA, upd mj s 0, upd mt s (-2), upd mb s (-2), upd mw s (-2), upd ms s (-2), upd mc s (-2), upd mo s (-2), upd md s (-2)) from
      ⟨rfl, rfl, rfl, rfl, eN, hQ', eM _ rfl⟩)
    by_cases h2 : y = 9999
    · rw [if_pos (Or.inl h2)] at H
      exact br_t h2 (H _ R1)
    · refine br_f h2 ?_
      by_cases h3 : y = d
      · rw [if_pos (Or.inr (Or.inl h3))] at H
        exact br_t h3 (H _ R1)
      · refine br_f h3 ?_
        by_cases h4 : tc_ct p d T = 0
        · rw [if_pos (Or.inr (Or.inr h4))] at H
          exact br_t h4 (H _ R1)
        · refine br_f h4 ?_
          rw [if_neg (by omega)] at H
          rw [tc_nzl (by omega)] at R1 ⊢
          refine tx_sendAll hc' hs hb hd (by omega) ?_ R1 (fun u' h' => ?_)
          · rw [tc_f1s]; exact hz
          · rw [tc_f1s, tc_ff, tc_ff] at h'
            exact H u' h'
theorem tx_dWrite {post : SX → Prop} (hc : tc_CF C B T S) (hs : s < S) (hb : b < B) (hd : d ≤ C) (hy : y < C) (hz : tc_ct (k b).1 (8 + s) T = 0) (he : (k b).2.2.1 d < C ∨ (k b).2.2.1 d = 9999) (hm : m s = (2, d, b, y, st, v)) (hR : tc_RX C B T S k m L u)
    (H : ∀ u', tc_RX C B T S (tc_f1 k b (tc_dB T s (k b) (m s)).1) (tc_f1 m s (tc_dB T s (k b) (m s)).2) L u' → post u') : wpX_deliverWrite post u (nI s) := by
  have hc' := hc
  obtain ⟨c1, c2, b1, b2, t1, t2, s1, s2⟩ := hc
  rw [hm] at H
  rcases hk : k b with ⟨p, c, e, t, w⟩
  rw [hk] at H hz he
  simp only [tc_dB, show ¬ ((2 : Nat) = 3) by decide, show ¬ ((2 : Nat) = 4) by decide, show ¬ ((2 : Nat) = 1) by decide, if_false, if_true] at H
  simp only at hz he
  refine tc_RXe (P := fun u => wpX_deliverWrite post u (nI s)) ?_ hR
  intro hA oA cA bA sA qA pA hQ lQ wA mj mt mb mw ms mc mo md hN hQ' hM
  have hM' := hM s hs
  rw [hm] at hM'
  obtain ⟨q1, q2, q3, q4, q5, q6, q7, q8⟩ := hM'
  simp only at q2 q3 q4
  rw [tc_nzl (by omega)] at q2 q3 q4
  have g := (hN b hb).2 d hd
  rw [hk] at g
  have g1 : hA (b * 5 + d) = nI (tc_ct p d T) := g.1
  have g4 : bA (b * 5 + d) = tc_nz (e d) := g.2.2.2.1
  have hct := tc_ct_le p d T
  have R1 := (show tc_RX C B T S k (tc_f1 m s tc_EMP) L (nI C, nI B, nI T, nI S, hA, oA, cA, bA, sA, qA, pA, hQ, lQ, wA, upd mj s 0, upd mt s (-2), upd mb s (-2), upd mw s (-2), upd ms s (-2), upd mc s (-2), upd mo s (-2), upd md s (-2)) from
      ⟨rfl, rfl, rfl, rfl, hN, hQ', tc_XM_put hM (fun _ _ _ _ => ⟨rfl, Iff.rfl⟩) (tc_XMs_E T _ s)⟩)
  simp (disch := omega) only [wpX_deliverWrite, wpX_cell, wpX_clear, tc_c5, q2, q3, q4, g1, g4, tc_vin, tc_cl, forall_eq, true_and, tc_nz_m2, tc_le0]
  by_cases h1 : e d = 9999
  · refine br_t h1 ?_
    by_cases h2 : tc_ct p d T = 0
    · rw [if_neg (by omega)] at H
      rw [← hk, tc_f1id] at H
      exact br_t h2 (H _ R1)
    · rw [if_pos (by omega)] at H
      refine br_f h2 (tx_sendAll hc' hs hb hd (by omega) (by rw [hk]; exact hz) R1 (fun u' h' => ?_))
      rw [hk, tc_ff] at h'
      exact H u' h'
  · rw [if_neg (by omega)] at H
    rw [← hk, tc_f1id] at H
    exact br_f h1 (H _ R1)
end
end
section
/-! X: a read request, and deliver -/
section
variable {C B T S : Nat} {k : Nat → tc_BS} {m : Nat → tc_MG} {L : tc_QL} {u : SX} {s b n d y st : Nat} {v : Int32}
theorem tc_sub1 {n : Nat} (h : 0 < n) : nI n - 1 = nI (n - 1) := by
  obtain ⟨j, rfl⟩ : ∃ j, n = j + 1 := ⟨n - 1, by omega⟩
  exact nI_pred j
theorem tc_if10 {c : Prop} [Decidable c] : ((if c then (1 : Int32) else 0) = 0) = ¬ c := by
  by_cases h : c
  · rw [if_pos h]; exact propext ⟨fun z => absurd z (by decide), fun z => absurd h z⟩
  · rw [if_neg h]; exact propext ⟨fun _ => h, fun _ => rfl⟩
theorem tx_dRead {post : SX → Prop} (hc : tc_CF C B T S) (hs : s < S) (hb : b < B) (hd : d ≤ C) (hy : y < C) (hz : tc_ct (k b).1 (8 + s) T = 0) (he : (k b).2.2.1 d < C ∨ (k b).2.2.1 d = 9999) (hm : m s = (1, d, b, y, st, v)) (hR : tc_RX C B T S k m L u)
    (H : ∀ u', tc_RX C B T S (tc_f1 k b (tc_dB T s (k b) (m s)).1) (tc_f1 m s (tc_dB T s (k b) (m s)).2) L u' → post u') : wpX_deliverRead post u (nI s) := by
  have hc' := hc
  obtain ⟨c1, c2, b1, b2, t1, t2, s1, s2⟩ := hc
  rw [hm] at H
  rcases hk : k b with ⟨p, c, e, t, w⟩
  rw [hk] at H hz he
  simp only [tc_dB, show ¬ ((1 : Nat) = 3) by decide, show ¬ ((1 : Nat) = 4) by decide, if_false, if_true] at H
  simp only at hz he
  refine tc_RXe (P := fun u => wpX_deliverRead post u (nI s)) ?_ hR
  intro hA oA cA bA sA qA pA hQ lQ wA mj mt mb mw ms mc mo md hN hQ' hM
  have hM' := hM s hs
  rw [hm] at hM'
  obtain ⟨q1, q2, q3, q4, q5, q6, q7, q8⟩ := hM'
  simp only at q2 q3 q4
  rw [tc_nzl (by omega)] at q2 q3 q4
  have gb := hN b hb
  rw [hk] at gb
  have g := gb.2 d hd
  have g1 : hA (b * 5 + d) = nI (tc_ct p d T) := g.1
  have g2 : oA (b * 5 + d) = if p 0 = d then 1 else 0 := g.2.1
  have g3 : cA (b * 5 + d) = c d := g.2.2.1
  have g4 : bA (b * 5 + d) = tc_nz (e d) := g.2.2.2.1
  have hct := tc_ct_le p d T
  have R1 := (show tc_RX C B T S k (tc_f1 m s tc_EMP) L (nI C, nI B, nI T, nI S, hA, oA, cA, bA, sA, qA, pA, hQ, lQ, wA, upd mj s 0, upd mt s (-2), upd mb s (-2), upd mw s (-2), upd ms s (-2), upd mc s (-2), upd mo s (-2), upd md s (-2)) from
      ⟨rfl, rfl, rfl, rfl, hN, hQ', tc_XM_put hM (fun _ _ _ _ => ⟨rfl, Iff.rfl⟩) (tc_XMs_E T _ s)⟩)
  simp (disch := omega) only [wpX_deliverRead, wpX_cell, wpX_clear, wpX_putTokens, wpX_putRequest, tc_c5, q2, q3, q4, g1, g2, g3, g4, tc_vin, tc_cl, forall_eq, true_and, tc_nz_m2, tc_if10, tc_lt2, tc_0le, forall_const, not_true, false_implies, and_true, tc_uu]
  by_cases h1 : e d = 9999
  · refine br_t h1 ?_
    by_cases h2 : p 0 = d
    · rw [if_pos ⟨h1, h2⟩] at H
      refine br_f (fun z => z h2) ?_
      by_cases h3 : 2 ≤ tc_ct p d T
      · rw [if_pos h3] at H
        refine br_f (by omega) ?_
        rw [tc_sub1 (by omega)]
        obtain ⟨j, j1, j2, j3, j4⟩ := tc_gv_ok h3
        have eg : tc_gv T p d (8 + s) = tc_f1 p j (8 + s) := by rw [tc_gv, j4]
        rw [eg] at H
        have ep0 : tc_f1 p j (8 + s) 0 = p 0 := tc_f1n (by omega)
        refine H _ ⟨rfl, rfl, rfl, rfl, tc_XN_b hN gb.1 (fun n' hn' => ?_) (fun b' n' _ hb' hn' => ?_), hQ', tc_XM_put hM (fun s' _ hs' _ => tc_keepmv ?_ ?_) ⟨rfl, (tc_nzl (by omega)).symm, (tc_nzl (by omega)).symm, tc_nzN.symm, tc_nzN.symm, ?_, ?_, rfl⟩⟩
        · have g' := gb.2 n' hn'
          refine ⟨?_, ?_, g'.2.2.1, g'.2.2.2.1, g'.2.2.2.2⟩
          · show _ = nI (tc_ct (tc_f1 p j (8 + s)) n' T)
            rw [tc_ui]
            by_cases e' : n' = d
            · rw [if_pos e', e']
              have := tc_ct_f1d (p := p) (i := j) (y := 8 + s) (by omega) T j2
              rw [j3] at this
              exact congrArg nI (by omega)
            · rw [if_neg e', tc_ct_f1n (by omega) (by omega)]; exact g'.1
          · show _ = if tc_f1 p j (8 + s) 0 = n' then (1 : Int32) else 0
            rw [ep0]; exact g'.2.1
        · simp (disch := omega) only [tc_ux, and_self]
        · rw [hk]; exact tc_ct_f1n (by omega) (by omega) T
        · rw [hk]
          show tc_f1 p j (8 + s) 0 = 8 + s' ↔ p 0 = 8 + s'
          rw [ep0]
        · show _ = nI (tc_ct (tc_f1 k b (tc_f1 p j (8 + s), c, e, t, w) b).1 (8 + s) T)
          rw [tc_f1s]
          show _ = nI (tc_ct (tc_f1 p j (8 + s)) (8 + s) T)
          rw [tc_ct_f1u (by omega) T j2, hz]; rfl
        · show _ = if (tc_f1 k b (tc_f1 p j (8 + s), c, e, t, w) b).1 0 = 8 + s then (1 : Int32) else 0
          rw [tc_f1s]
          show _ = if tc_f1 p j (8 + s) 0 = 8 + s then (1 : Int32) else 0
          rw [ep0, if_neg (by omega)]
      · rw [if_neg h3] at H
        refine br_t (by omega) (tx_sendAll hc' hs hb hd (by omega) (by rw [hk]; exact hz) R1 (fun u' h' => ?_))
        rw [hk, tc_ff] at h'
        exact H u' h'
    · rw [if_neg (fun z => h2 z.2)] at H
      rw [← hk, tc_f1id] at H
      exact br_t h2 (H _ R1)
  · rw [if_neg (fun z => h1 z.1)] at H
    rw [← hk, tc_f1id] at H
    exact br_f h1 (H _ R1)
/-- no token is at slot s unless a token message of the block is there -/
theorem tc_slot0 {K : Nat} (hC : C ≤ 4) (hW : tc_W0 C B T S K k m) (hb : b < B) (h : (m s).1 = 3 → (m s).2.2.1 ≠ b) : tc_ct (k b).1 (8 + s) T = 0 := by
  have h1 := hW.1 b hb
  revert h1
  rcases k b with ⟨p, c, e, t, w⟩
  intro h1
  refine tc_ct_zero T (fun i hi z => ?_)
  rcases h1.1 i hi with q | ⟨s', q1, q2, q3, q4⟩
  · simp only at z; omega
  · have : s' = s := by simp only at z; omega
    subst this
    exact h q3 q4
theorem tc_W_e {K : Nat} (hW : tc_W0 C B T S K k m) (hb : b < B) (hd : d ≤ C) : (k b).2.2.1 d < C ∨ (k b).2.2.1 d = 9999 := by
  have h1 := hW.1 b hb
  revert h1
  rcases k b with ⟨p, c, e, t, w⟩
  intro h1
  exact h1.2.2.1 d hd
theorem tc_W_t {K : Nat} (hW : tc_W0 C B T S K k m) (hb : b < B) (hd : d ≤ C) : (k b).2.2.2.1 d ≤ (k b).2.2.2.1 C ∧ (k b).2.2.2.1 C ≤ K := by
  have h1 := hW.1 b hb
  revert h1
  rcases k b with ⟨p, c, e, t, w⟩
  intro h1
  exact ⟨h1.2.1.1 d hd, h1.2.1.2⟩
theorem tc_kd5 {K : Nat} (hW : tc_W0 C B T S K k m) : ∀ s, s < S → (m s).1 < 5 := by
  intro s hs
  have h1 := hW.2 s hs
  revert h1
  rcases m s with ⟨a, d, b, y, st, v⟩
  intro h1
  rcases h1 with h1 | ⟨_, _, h1⟩
  · rw [h1]; decide
  · simp only; omega
theorem tc_kd0 {K : Nat} (hW : tc_W0 C B T S K k m) (hs : s < S) (h : (m s).1 = 0) : m s = tc_EMP := by
  have h1 := hW.2 s hs
  revert h1 h
  rcases m s with ⟨a, d, b, y, st, v⟩
  intro h h1
  rcases h1 with h1 | ⟨_, _, h1⟩
  · exact h1
  · simp only at h; omega
theorem tx_deliver {post : Int32 → SX → Prop} {K : Nat} (hc : tc_CF C B T S) (hK : K < 9999) (hs : s < S) (h0 : (m s).1 ≠ 0) (hW : tc_W0 C B T S K k m) (hR : tc_RX C B T S k m L u)
    (H : ∀ u', tc_RX C B T S (tc_dk T s k m) (tc_dm T s k m) L u' → post (if (tc_dm T s k m s).1 = 0 then 0 else 1) u') : wpX_deliver post u (nI s) := by
  have hc' := hc
  obtain ⟨c1, c2, b1, b2, t1, t2, s1, s2⟩ := hc
  have hk5 := tc_kd5 hW s hs
  have fin : ∀ u', tc_RX C B T S (tc_dk T s k m) (tc_dm T s k m) L u' → (match u' with | (f_caches, f_blocks, f_tokens, f_slots, hA, oA, cA, bA, sA, qA, pA, hQ, lQ, wA, mj, mt, mb, mw, ms, mc, mo, md) => wX_deliver_61 post (nI s) f_caches f_blocks f_tokens f_slots hA oA cA bA sA qA pA hQ lQ wA mj mt mb mw ms mc mo md) := by
    intro u' h'
    have h'' := h'
    refine tc_RXe (P := fun u' => tc_RX C B T S (tc_dk T s k m) (tc_dm T s k m) L u' → (match u' with | (f_caches, f_blocks, f_tokens, f_slots, hA, oA, cA, bA, sA, qA, pA, hQ, lQ, wA, mj, mt, mb, mw, ms, mc, mo, md) => wX_deliver_61 post (nI s) f_caches f_blocks f_tokens f_slots hA oA cA bA sA qA pA hQ lQ wA mj mt mb mw ms mc mo md)) ?_ h' h''
    intro hA oA cA bA sA qA pA hQ lQ wA mj mt mb mw ms mc mo md hN hQ' hM hR'
    have hk : (tc_dm T s k m s).1 < 5 := by
      have hW' := tc_dB_W c2 (by omega) hs hW (fun z => h0 (by rw [z]; rfl))
      exact tc_kd5 hW'.1 s hs
    refine ⟨tc_vin (by omega) (by omega), ?_⟩
    rw [tc_cl (by omega), (hM s hs).1]
    have H' := H _ hR'
    by_cases z : (tc_dm T s k m s).1 = 0
    · rw [if_pos z] at H'
      exact br_t (by rw [z]; rfl) H'
    · rw [if_neg z] at H'
      exact br_f (fun q => z ((tc_eq0 (by omega)).mp q)) H'
  have hWm := hW.2 s hs
  have hR' := hR
  refine tc_RXe (P := fun u => tc_RX C B T S k m L u → wpX_deliver post u (nI s)) ?_ hR hR'
  intro hA oA cA bA sA qA pA hQ lQ wA mj mt mb mw ms mc mo md hN hQ' hM hR''
  have q1 := (hM s hs).1
  unfold tc_dk tc_dm at fin
  simp (disch := omega) only [wpX_deliver, wpX_hasMessage, q1, tc_vin, tc_cl, forall_eq, true_and, tc_lt0, tc_le, tc_eq0, tc_eq1, tc_eq3, tc_eq4, false_implies, not_false_eq_true, forall_const, tc_n10]
  refine br_f (by omega) (br_f h0 ?_)
  rcases hm : m s with ⟨a, d, b, y, st, v⟩
  rw [hm] at hWm h0
  simp only [hm] at fin
  simp only at h0 ⊢
  rcases hWm with h | ⟨hb, hd, h⟩
  · exact absurd (congrArg (fun r : tc_MG => r.1) h) h0
  have he := tc_W_e hW hb hd
  have ht := tc_W_t hW hb hd
  rcases h with ⟨e1 | e1, e2, e3, e4⟩ | ⟨e1, e2, e3, e4⟩ | ⟨e1, e2, e3, e4, e5⟩
  · subst e1
    refine br_f (by decide) (br_f (by decide) (br_t rfl ?_))
    exact tx_dRead hc' hs hb hd e2 (tc_slot0 c2 hW hb (fun z => by rw [hm] at z; exact absurd z (show ¬ (1 : Nat) = 3 by decide))) he hm hR'' (by rw [hm]; exact fin)
  · subst e1
    refine br_f (by decide) (br_f (by decide) (br_f (by decide) ?_))
    exact tx_dWrite hc' hs hb hd e2 (tc_slot0 c2 hW hb (fun z => by rw [hm] at z; exact absurd z (show ¬ (2 : Nat) = 3 by decide))) he hm hR'' (by rw [hm]; exact fin)
  · subst e1
    exact br_t rfl (tx_dTok hc' hs hb hd hm he hR'' (by rw [hm]; exact fin))
  · subst e1
    refine br_f (by decide) (br_t rfl ?_)
    exact tx_dNot hc' hs hb hd e3 (by omega) (by omega) (tc_slot0 c2 hW hb (fun z => by rw [hm] at z; exact absurd z (show ¬ (4 : Nat) = 3 by decide))) hm hR'' (by rw [hm]; exact fin)
end
end
section
/-! Y: the small methods -/
theorem tc_vi {f : Nat → Int32} {b n n' : Nat} {v : Int32} : upd f (n * 4 + b) v (n' * 4 + b) = if n' = n then v else f (n' * 4 + b) := by
  simp only [upd]
  by_cases h : n' = n
  · rw [if_pos h, if_pos (by omega)]
  · rw [if_neg h, if_neg (by omega)]
theorem tc_vx {f : Nat → Int32} {b b' n n' : Nat} {v : Int32} (hb : b' ≠ b) (h : b < 4) (h' : b' < 4) : upd f (n * 4 + b) v (n' * 4 + b') = f (n' * 4 + b') := pk_un (by omega)
theorem tc_YN_b {C B T b : Nat} {k : Nat → tc_BS} {q : tc_BS} {pA cA bA sA wA pA' cA' bA' sA' wA' : Nat → Int32} (hN : tc_YN C B T k pA cA bA sA wA) (hw : wA' b = q.2.2.2.2) (hp : ∀ i, i < T → pA' (b * 8 + i) = nI (q.1 i))
    (h1 : ∀ n, n ≤ C → tc_YNs n q (cA' (n * 4 + b)) (bA' (n * 4 + b)) (sA' (n * 4 + b)))
    (h2 : ∀ b', b' < B → b' ≠ b → wA' b' = wA b' ∧ (∀ i, i < T → pA' (b' * 8 + i) = pA (b' * 8 + i)) ∧ ∀ n, n ≤ C → cA' (n * 4 + b') = cA (n * 4 + b') ∧ bA' (n * 4 + b') = bA (n * 4 + b') ∧ sA' (n * 4 + b') = sA (n * 4 + b')) :
    tc_YN C B T (tc_f1 k b q) pA' cA' bA' sA' wA' := by
  intro b' hb'
  by_cases e : b' = b
  · rw [e, tc_f1s]; exact ⟨hw, hp, h1⟩
  · rw [tc_f1n e]
    obtain ⟨g1, g2, g3⟩ := h2 b' hb' e
    obtain ⟨f1, f2, f3⟩ := hN b' hb'
    refine ⟨g1.trans f1, fun i hi => (g2 i hi).trans (f2 i hi), fun n hn => ?_⟩
    obtain ⟨q1, q2, q3⟩ := g3 n hn
    rw [q1, q2, q3]
    exact f3 n hn
theorem tc_YM_put {S s : Nat} {m : Nat → tc_MG} {x : tc_MG} {mj mt mb mw ms md : Nat → Int32} {a1 a2 a3 a4 a5 a6 : Int32} (hM : tc_YM S m mj mt mb mw ms md) (hx : tc_YMs x a1 a2 a3 a4 a5 a6) :
    tc_YM S (tc_f1 m s x) (upd mj s a1) (upd mt s a2) (upd mb s a3) (upd mw s a4) (upd ms s a5) (upd md s a6) := by
  intro s' hs'
  by_cases e : s' = s
  · rw [e, tc_f1s]; simp only [pk_us]; exact hx
  · rw [tc_f1n e]; simp only [pk_un e]; exact hM s' hs'
theorem tc_YM_clr {S s : Nat} {m : Nat → tc_MG} {mj mt mb mw ms md : Nat → Int32} (hM : tc_YM S m mj mt mb mw ms md) : tc_YM S (tc_f1 m s tc_EMP) (upd mj s 0) mt mb mw ms md := by
  intro s' hs'
  by_cases e : s' = s
  · rw [e, tc_f1s, pk_us]; exact ⟨rfl, fun z => absurd rfl z⟩
  · rw [tc_f1n e, pk_un e]; exact hM s' hs'
/-- the places of a block are small numbers -/
def tc_PS (T : Nat) (p : Nat → Nat) : Prop := ∀ i, i < T → p i < 100
section
variable {C B T S : Nat} {k : Nat → tc_BS} {m : Nat → tc_MG} {L : tc_QL} {u : SY} {s b n d x y st : Nat} {v : Int32}
theorem ty_ta5 {post : Int32 → Prop} {pA cA bA sA wA mj mt mb mw ms md qb qc qv : Nat → Int32} (hc : tc_CF C B T S) (hb : b < B) (hx : x < 100) (hp : tc_PS T (k b).1) (hN : tc_YN C B T k pA cA bA sA wA) (H : post (nI (tc_ct (k b).1 x T))) : ∀ f i, i + f = T →
    wY_tokensAt_5 post (nI x) (nI b) (nI C) (nI B) (nI T) (nI S) (nI L.length) pA cA bA sA wA mj mt mb mw ms md qb qc qv (f + 1) (nI (tc_ct (k b).1 x i)) (nI i)
  | 0, i, h => by
    obtain ⟨c1, c2, b1, b2, t1, t2, s1, s2⟩ := hc
    have e : i = T := by omega
    subst e
    exact br_t (nI_le (by omega) (by omega)) H
  | f + 1, i, h => by
    have hc' := hc
    obtain ⟨c1, c2, b1, b2, t1, t2, s1, s2⟩ := hc
    have := hp i (by omega)
    refine br_f (nI_ge (by omega) (by omega)) ?_
    rw [tc_c8]
    refine ⟨tc_vin (by omega) (by omega), ?_⟩
    rw [tc_cl (by omega), (hN b hb).2.1 i (by omega)]
    by_cases e : (k b).1 i = x
    · exact br_t (by rw [e]) (nm_r (nI_1 _) (nm_r (nI_1 i) (by rw [← tc_ct_t e]; exact ty_ta5 hc' hb hx hp hN H f (i + 1) (by omega))))
    · exact br_f (fun z => e ((tc_eq (by omega) (by omega)).mp z)) (nm_r (nI_1 i) (by rw [← tc_ct_n e]; exact ty_ta5 hc' hb hx hp hN H f (i + 1) (by omega)))
theorem ty_tokensAt {post : Int32 → Prop} (hc : tc_CF C B T S) (hb : b < B) (hx : x < 100) (hp : tc_PS T (k b).1) (hR : tc_RY C B T S k m L u) (H : post (nI (tc_ct (k b).1 x T))) : wpY_tokensAt post u (nI x) (nI b) := by
  refine tc_RYe (P := fun u => wpY_tokensAt post u (nI x) (nI b)) ?_ hR
  intro pA cA bA sA wA mj mt mb mw ms md qb qc qv hN hM hQ
  exact ⟨T + 1, ty_ta5 hc hb hx hp hN H T 0 (by omega)⟩
theorem ty_le2 {post : Int32 → Prop} {pA cA bA sA wA mj mt mb mw ms md qb qc qv : Nat → Int32} (hc : tc_CF C B T S) (hM : tc_YM S m mj mt mb mw ms md) (hk : ∀ s, s < S → (m s).1 < 5) : ∀ f i, i + f = S →
    post (tc_mI (tc_fi (tc_kk m) 0 f i)) → wY_lowestEmpty_2 post (nI C) (nI B) (nI T) (nI S) (nI L.length) pA cA bA sA wA mj mt mb mw ms md qb qc qv (f + 1) (nI i)
  | 0, i, h, hp => by
    obtain ⟨c1, c2, b1, b2, t1, t2, s1, s2⟩ := hc
    exact br_t (nI_le (by omega) (by omega)) hp
  | f + 1, i, h, hp => by
    have hc' := hc
    obtain ⟨c1, c2, b1, b2, t1, t2, s1, s2⟩ := hc
    refine br_f (nI_ge (by omega) (by omega)) ⟨tc_vin (by omega) (by omega), ?_⟩
    rw [tc_cl (by omega), (hM i (by omega)).1]
    have := hk i (by omega)
    by_cases e : (m i).1 = 0
    · rw [tc_fi_t (show tc_kk m i = 0 from e), tc_mIl (by omega)] at hp
      exact br_t (by rw [e]; rfl) hp
    · rw [tc_fi_n (show ¬ tc_kk m i = 0 from e)] at hp
      refine br_f (fun z => e ((tc_eq0 (by omega)).mp z)) (nm_r (nI_1 i) ?_)
      exact ty_le2 hc' hM hk f (i + 1) (by omega) hp
theorem ty_lowestEmpty {post : Int32 → Prop} (hc : tc_CF C B T S) (hk : ∀ s, s < S → (m s).1 < 5) (hR : tc_RY C B T S k m L u) (H : post (tc_mI (tc_fe S m))) : wpY_lowestEmpty post u := by
  refine tc_RYe (P := fun u => wpY_lowestEmpty post u) ?_ hR
  intro pA cA bA sA wA mj mt mb mw ms md qb qc qv hN hM hQ
  exact ⟨S + 1, ty_le2 hc hM hk S 0 (by omega) H⟩
theorem ty_fr4 {post : Int32 → Prop} {pA cA bA sA wA mj mt mb mw ms md qb qc qv : Nat → Int32} (hc : tc_CF C B T S) (hM : tc_YM S m mj mt mb mw ms md) (hk : ∀ s, s < S → (m s).1 < 5) (hp : post (nI (tc_fr S m))) : ∀ f i, i + f = S →
    wY_free_4 post (nI C) (nI B) (nI T) (nI S) (nI L.length) pA cA bA sA wA mj mt mb mw ms md qb qc qv (f + 1) (nI (tc_ct (tc_kk m) 0 i)) (nI i)
  | 0, i, h => by
    obtain ⟨c1, c2, b1, b2, t1, t2, s1, s2⟩ := hc
    have e : i = S := by omega
    subst e
    exact br_t (nI_le (by omega) (by omega)) hp
  | f + 1, i, h => by
    have hc' := hc
    obtain ⟨c1, c2, b1, b2, t1, t2, s1, s2⟩ := hc
    refine br_f (nI_ge (by omega) (by omega)) ⟨tc_vin (by omega) (by omega), ?_⟩
    rw [tc_cl (by omega), (hM i (by omega)).1]
    have := hk i (by omega)
    by_cases e : (m i).1 = 0
    · exact br_t (by rw [e]; rfl) (nm_r (nI_1 _) (nm_r (nI_1 i) (by rw [← tc_ct_t (show tc_kk m i = 0 from e)]; exact ty_fr4 hc' hM hk hp f (i + 1) (by omega))))
    · exact br_f (fun z => e ((tc_eq0 (by omega)).mp z)) (nm_r (nI_1 i) (by rw [← tc_ct_n (show ¬ tc_kk m i = 0 from e)]; exact ty_fr4 hc' hM hk hp f (i + 1) (by omega)))
theorem ty_free {post : Int32 → Prop} (hc : tc_CF C B T S) (hk : ∀ s, s < S → (m s).1 < 5) (hR : tc_RY C B T S k m L u) (H : post (nI (tc_fr S m))) : wpY_free post u := by
  refine tc_RYe (P := fun u => wpY_free post u) ?_ hR
  intro pA cA bA sA wA mj mt mb mw ms md qb qc qv hN hM hQ
  exact ⟨S + 1, ty_fr4 hc hM hk H S 0 (by omega)⟩
theorem ty_put {post : SY → Prop} {a : Nat} {p4 p5 p6 dat : Int32} (hc : tc_CF C B T S) (hs : s < S) (h4 : a ≠ 3 → p4 = tc_nz y) (h5 : a = 4 → p5 = nI st) (h6 : a = 3 → p6 = dat) (hR : tc_RY C B T S k m L u)
    (H : ∀ u', tc_RY C B T S k (tc_f1 m s (a, d, b, y, st, dat)) L u' → post u') : wpY_put post u (nI s) (nI a) (nI d) (nI b) p4 p5 p6 := by
  obtain ⟨c1, c2, b1, b2, t1, t2, s1, s2⟩ := hc
  refine tc_RYe (P := fun u => wpY_put post u (nI s) (nI a) (nI d) (nI b) p4 p5 p6) ?_ hR
  intro pA cA bA sA wA mj mt mb mw ms md qb qc qv hN hM hQ
  simp (disch := omega) only [wpY_put, tc_vin, tc_cl, tc_0le, forall_eq, true_and, forall_const, not_true, false_implies, and_true]
  exact H _ ⟨rfl, rfl, rfl, rfl, rfl, hN, tc_YM_put hM ⟨rfl, fun _ => ⟨rfl, rfl, h4, h5, h6⟩⟩, hQ⟩
theorem ty_mv3 {post : SY → Prop} {pA cA bA sA wA mj mt mb mw ms md qb qc qv : Nat → Int32} (hc : tc_CF C B T S) (hb : b < B) (hx : x < 100) (hp : tc_PS T (k b).1) (hN : ∀ i, i < T → pA (b * 8 + i) = nI ((k b).1 i))
    (H : ∀ pA', (∀ i, i < T → pA' (b * 8 + i) = nI (tc_mv (k b).1 x y i)) → (∀ j, j < b * 8 ∨ b * 8 + T ≤ j → pA' j = pA j) → post (nI C, nI B, nI T, nI S, nI L.length, pA', cA, bA, sA, wA, mj, mt, mb, mw, ms, md, qb, qc, qv)) :
    ∀ f i pA', i + f = T → (∀ j, j < i → pA' (b * 8 + j) = nI (tc_mv (k b).1 x y j)) → (∀ j, j < b * 8 ∨ b * 8 + i ≤ j → pA' j = pA j) →
    wY_move_3 post (nI x) (nI y) (nI b) (nI C) (nI B) (nI T) (nI S) (nI L.length) (f + 1) (nI i) pA' cA bA sA wA mj mt mb mw ms md qb qc qv
  | 0, i, pA', h, h1, h2 => by
    obtain ⟨c1, c2, b1, b2, t1, t2, s1, s2⟩ := hc
    have e : i = T := by omega
    subst e
    exact br_t (nI_le (by omega) (by omega)) (H pA' h1 h2)
  | f + 1, i, pA', h, h1, h2 => by
    have hc' := hc
    obtain ⟨c1, c2, b1, b2, t1, t2, s1, s2⟩ := hc
    have := hp i (by omega)
    refine br_f (nI_ge (by omega) (by omega)) ?_
    rw [tc_c8]
    refine ⟨tc_vin (by omega) (by omega), ?_⟩
    rw [tc_cl (by omega), h2 (b * 8 + i) (by omega), hN i (by omega)]
    by_cases e : (k b).1 i = x
    · refine br_t (by rw [e]) ⟨tc_vin (by omega) (by omega), nm_e (nm_r (nI_1 i) (ty_mv3 hc' hb hx hp hN H f (i + 1) _ (by omega) (fun j hj => ?_) (fun j hj => ?_)))⟩
      · by_cases ej : j = i
        · rw [ej, pk_us]; simp only [tc_mv, if_pos e]
        · rw [pk_un (by omega)]; exact h1 j (by omega)
      · rw [pk_un (by omega)]; exact h2 j (by omega)
    · refine br_f (fun z => e ((tc_eq (by omega) (by omega)).mp z)) (nm_r (nI_1 i) (ty_mv3 hc' hb hx hp hN H f (i + 1) _ (by omega) (fun j hj => ?_) (fun j hj => h2 j (by omega))))
      by_cases ej : j = i
      · rw [ej, h2 (b * 8 + i) (by omega), hN i (by omega)]; simp only [tc_mv, if_neg e]
      · exact h1 j (by omega)
theorem ty_move {post : SY → Prop} (hc : tc_CF C B T S) (hb : b < B) (hx : x < 100) (hp : tc_PS T (k b).1) (hR : tc_RY C B T S k m L u)
    (H : ∀ u', tc_RY C B T S (tc_f1 k b (tc_mv (k b).1 x y, (k b).2)) m L u' → post u') : wpY_move post u (nI x) (nI y) (nI b) := by
  have hc' := hc
  obtain ⟨c1, c2, b1, b2, t1, t2, s1, s2⟩ := hc
  refine tc_RYe (P := fun u => wpY_move post u (nI x) (nI y) (nI b)) ?_ hR
  intro pA cA bA sA wA mj mt mb mw ms md qb qc qv hN hM hQ
  refine ⟨T + 1, ty_mv3 hc' hb hx hp (hN b hb).2.1 (fun pA' g1 g2 => H _ ⟨rfl, rfl, rfl, rfl, rfl, ?_, hM, hQ⟩) T 0 pA (by omega) (fun j hj => by omega) (fun j _ => rfl)⟩
  exact tc_YN_b hN (hN b hb).1 g1 (hN b hb).2.2 (fun b' hb' e => ⟨rfl, fun i hi => g2 _ (by omega), fun n hn => ⟨rfl, rfl, rfl⟩⟩)
end
end
section
/-! Y: tokens leave and arrive; deliver -/
section
variable {C B T S : Nat} {k : Nat → tc_BS} {m : Nat → tc_MG} {L : tc_QL} {u : SY} {s b n d x y st : Nat} {v : Int32}
theorem tc_PS_mv {p : Nat → Nat} (hy : y < 100) (h : tc_PS T p) : tc_PS T (tc_mv p x y) := by
  intro i hi
  have := h i hi
  simp only [tc_mv]
  split <;> omega
/-- a copy is stored -/
theorem ty_cpN {pA cA bA sA wA : Nat → Int32} (hB : B ≤ 4) (hb : b < B) (hN : tc_YN C B T k pA cA bA sA wA) : tc_YN C B T (tc_f1 k b ((k b).1, tc_f1 (k b).2.1 n v, (k b).2.2)) pA (upd cA (n * 4 + b) v) bA sA wA := by
  refine tc_YN_b hN (hN b hb).1 (hN b hb).2.1 (fun n' hn' => ?_) (fun b' hb' e => ⟨rfl, fun _ _ => rfl, fun n' hn' => ⟨tc_vx e (by omega) (by omega), rfl, rfl⟩⟩)
  have g := (hN b hb).2.2 n' hn'
  refine ⟨?_, g.2.1, g.2.2⟩
  show _ = tc_f1 (k b).2.1 n v n'
  rw [tc_vi]
  by_cases e : n' = n
  · rw [if_pos e, e, tc_f1s]
  · rw [if_neg e, tc_f1n e]; exact g.1
theorem ty_sendAll {post : SY → Prop} (hc : tc_CF C B T S) (hs : s < S) (hb : b < B) (hn : n ≤ C) (hp : tc_PS T (k b).1) (hR : tc_RY C B T S k m L u)
    (H : ∀ u', tc_RY C B T S (tc_f1 k b (tc_sB s n x b (k b)).1) (tc_f1 m s (tc_sB s n x b (k b)).2) L u' → post u') : wpY_sendAll post u (nI s) (nI n) (nI x) (nI b) := by
  have hc' := hc
  obtain ⟨c1, c2, b1, b2, t1, t2, s1, s2⟩ := hc
  have hR' := hR
  refine tc_RYe (P := fun u => tc_RY C B T S k m L u → wpY_sendAll post u (nI s) (nI n) (nI x) (nI b)) ?_ hR hR'
  intro pA cA bA sA wA mj mt mb mw ms md qb qc qv hN hM hQ hR''
  have g0 : pA (b * 8) = nI ((k b).1 0) := (hN b hb).2.1 0 (by omega)
  have g1 : cA (n * 4 + b) = (k b).2.1 n := ((hN b hb).2.2 n hn).1
  have hp0 := hp 0 (by omega)
  have key : ∀ z : Int32, z = (if (k b).1 0 = n then (k b).2.1 n else -2) → wY_sendAll_35 post (nI s) (nI n) (nI x) (nI b) z (nI C) (nI B) (nI T) (nI S) (nI L.length) pA cA bA sA wA mj mt mb mw ms md qb qc qv := by
    intro z hz
    unfold wY_sendAll_35
    refine ty_put (a := 3) (y := 9999) (st := 9999) (dat := z) hc' hs (fun q => absurd rfl q) (fun q => absurd q (by decide)) (fun _ => rfl) hR'' (fun u' h' => ?_)
    revert u'
    refine tc_RYi ?_
    clear hN hM hQ hR'' g0 g1
    intro pA cA bA sA wA mj mt mb mw ms md qb qc qv hN hM hQ
    rw [tc_8p]
    refine ty_move hc' hb (by omega) hp ⟨rfl, rfl, rfl, rfl, rfl, hN, hM, hQ⟩ (fun u' h' => ?_)
    revert u'
    refine tc_RYi ?_
    clear hN hM hQ
    intro pA cA bA sA wA mj mt mb mw ms md qb qc qv hN hM hQ
    simp (disch := omega) only [tc_c4, tc_vin, tc_cl, forall_eq, true_and]
    refine H _ ⟨rfl, rfl, rfl, rfl, rfl, ?_, ?_, hQ⟩
    · have := ty_cpN (n := n) (v := -2) b2 hb hN
      rw [tc_f1s, tc_ff] at this
      revert this
      rcases k b with ⟨p, c, e, t, w⟩
      exact id
    · rw [hz] at hM
      revert hM
      rcases k b with ⟨p, c, e, t, w⟩
      exact id
  simp (disch := omega) only [wpY_sendAll, tc_0le, tc_m8, tc_vin, tc_cl, g0, forall_const, not_true, false_implies, and_true, true_and, tc_c4, g1, tc_eq]
  by_cases z : (k b).1 0 = n
  · exact br_t z (key _ (by rw [if_pos z]))
  · exact br_f z (key _ (by rw [if_neg z]))
theorem ty_takeIn {post : SY → Prop} {yy : Nat} (hc : tc_CF C B T S) (hs : s < S) (hb : b < B) (hd : d ≤ C) (hp : tc_PS T (k b).1) (hm : m s = (3, d, b, yy, st, v)) (hR : tc_RY C B T S k m L u)
    (H : ∀ u', tc_RY C B T S (tc_f1 k b (tc_tB s d v (k b))) (tc_f1 m s tc_EMP) L u' → post u') : wpY_takeIn post u (nI s) := by
  have hc' := hc
  obtain ⟨c1, c2, b1, b2, t1, t2, s1, s2⟩ := hc
  have hR' := hR
  refine tc_RYe (P := fun u => tc_RY C B T S k m L u → wpY_takeIn post u (nI s)) ?_ hR hR'
  intro pA cA bA sA wA mj mt mb mw ms md qb qc qv hN hM hQ hR''
  have hM' := hM s hs
  rw [hm] at hM'
  obtain ⟨q1, q2⟩ := hM'
  obtain ⟨q2, q3, q4, q5, q6⟩ := q2 (by simp only; decide)
  simp only at q1 q2 q3
  unfold wpY_takeIn
  dsimp only
  refine ⟨tc_vin (by omega) (by omega), tc_vin (by omega) (by omega), ?_⟩
  rw [tc_cl (by omega), q2, q3, tc_8p]
  refine ty_move hc' hb (by omega) hp hR'' (fun u' h' => ?_)
  revert u'
  refine tc_RYi ?_
  clear hN hM hQ hR'' hR hR' q1 q2 q3 q4 q5 q6
  intro pA cA bA sA wA mj mt mb mw ms md qb qc qv hN hM hQ
  have hM' := hM s hs
  rw [hm] at hM'
  obtain ⟨q1, q2⟩ := hM'
  obtain ⟨q2, q3, q4, q5, q6⟩ := q2 (by simp only; decide)
  have q6 := q6 rfl
  simp only at q1 q2 q3 q6
  simp (disch := omega) only [tc_vin, tc_cl, forall_eq, true_and, q2, q3, q6, tc_c4]
  by_cases z : v = -2
  · refine br_t z (H _ ⟨rfl, rfl, rfl, rfl, rfl, ?_, tc_YM_clr hM, hQ⟩)
    revert hN
    rcases k b with ⟨p, c, e, t, w⟩
    simp only [tc_tB, if_pos z]
    exact id
  · refine br_f z (H _ ⟨rfl, rfl, rfl, rfl, rfl, ?_, tc_YM_clr hM, hQ⟩)
    have := ty_cpN (n := d) (v := v) b2 hb hN
    rw [tc_f1s, tc_ff] at this
    revert this
    rcases k b with ⟨p, c, e, t, w⟩
    simp only [tc_tB, if_neg z]
    exact id
end
end
section
/-! Y: deliver -/
section
variable {C B T S : Nat} {k k' : Nat → tc_BS} {m m' : Nat → tc_MG} {L : tc_QL} {u : SY} {s b n d x y st a : Nat} {v x2 x3 x4 x5 x6 x7 : Int32} {post : Int32 → SY → Prop}
theorem ty_367 (hc : tc_CF C B T S) (hs : s < S) (hk : (m' s).1 < 5) (hR : tc_RY C B T S k' m' L u) (H : ∀ u', tc_RY C B T S k' m' L u' → post (if (m' s).1 = 0 then 0 else 1) u') :
    (match u with | (f_caches, f_blocks, f_tokens, f_slots, f_entries, pA, cA, bA, sA, wA, mj, mt, mb, mw, ms, md, qb, qc, qv) => wY_deliver_367 post (nI s) f_caches f_blocks f_tokens f_slots f_entries pA cA bA sA wA mj mt mb mw ms md qb qc qv) := by
  obtain ⟨c1, c2, b1, b2, t1, t2, s1, s2⟩ := hc
  have hR' := hR
  refine tc_RYe (P := fun u => tc_RY C B T S k' m' L u → match u with | (f_caches, f_blocks, f_tokens, f_slots, f_entries, pA, cA, bA, sA, wA, mj, mt, mb, mw, ms, md, qb, qc, qv) => wY_deliver_367 post (nI s) f_caches f_blocks f_tokens f_slots f_entries pA cA bA sA wA mj mt mb mw ms md qb qc qv) ?_ hR hR'
  intro pA cA bA sA wA mj mt mb mw ms md qb qc qv hN hM hQ hR''
  refine ⟨tc_vin (by omega) (by omega), ?_⟩
  rw [tc_cl (by omega), (hM s hs).1]
  have H' := H _ hR''
  by_cases z : (m' s).1 = 0
  · rw [if_pos z] at H'
    exact br_t (by rw [z]; rfl) H'
  · rw [if_neg z] at H'
    exact br_f (fun q => z ((tc_eq0 (by omega)).mp q)) H'
theorem ty_264 (h2 : ¬ x2 = 2) (h4 : ¬ x2 = 4)
    (h : match u with | (f_caches, f_blocks, f_tokens, f_slots, f_entries, pA, cA, bA, sA, wA, mj, mt, mb, mw, ms, md, qb, qc, qv) => wY_deliver_367 post (nI s) f_caches f_blocks f_tokens f_slots f_entries pA cA bA sA wA mj mt mb mw ms md qb qc qv) :
    (match u with | (f_caches, f_blocks, f_tokens, f_slots, f_entries, pA, cA, bA, sA, wA, mj, mt, mb, mw, ms, md, qb, qc, qv) => wY_deliver_264 post (nI s) x2 x3 x4 x5 x6 x7 f_caches f_blocks f_tokens f_slots f_entries pA cA bA sA wA mj mt mb mw ms md qb qc qv) := by
  rcases u with ⟨f_caches, f_blocks, f_tokens, f_slots, f_entries, pA, cA, bA, sA, wA, mj, mt, mb, mw, ms, md, qb, qc, qv⟩
  exact br_f h2 (br_f h4 h)
theorem ty_296 (h4 : ¬ x2 = 4)
    (h : match u with | (f_caches, f_blocks, f_tokens, f_slots, f_entries, pA, cA, bA, sA, wA, mj, mt, mb, mw, ms, md, qb, qc, qv) => wY_deliver_367 post (nI s) f_caches f_blocks f_tokens f_slots f_entries pA cA bA sA wA mj mt mb mw ms md qb qc qv) :
    (match u with | (f_caches, f_blocks, f_tokens, f_slots, f_entries, pA, cA, bA, sA, wA, mj, mt, mb, mw, ms, md, qb, qc, qv) => wY_deliver_296 post (nI s) x2 x3 x4 x5 x6 x7 f_caches f_blocks f_tokens f_slots f_entries pA cA bA sA wA mj mt mb mw ms md qb qc qv) := by
  rcases u with ⟨f_caches, f_blocks, f_tokens, f_slots, f_entries, pA, cA, bA, sA, wA, mj, mt, mb, mw, ms, md, qb, qc, qv⟩
  exact br_f h4 h
/-- Y gives one token that is not the owner token -/
theorem ty_194 {pA cA bA sA wA mj mt mb mw ms md qb qc qv : Nat → Int32} {p : Nat → Nat} (hc : tc_CF C B T S) (hb : b < B) (hd : d ≤ C) (hs : s < S) (hp : tc_PS T p) (hN : ∀ i, i < T → pA (b * 8 + i) = nI (p i)) :
    ∀ f i, i + f = T → (∃ l, i ≤ l ∧ l < i + f ∧ p l = d) →
    wY_deliver_251 post (nI s) x2 (nI d) (nI b) x5 x6 x7 (nI C) (nI B) (nI T) (nI S) (nI L.length) (upd pA (b * 8 + tc_fi p d f i) (nI (8 + s))) cA bA sA wA mj mt mb mw ms md qb qc qv →
    wY_deliver_194 post (nI s) x2 (nI d) (nI b) x5 x6 x7 (nI C) (nI B) (nI T) (nI S) (nI L.length) (f + 1) 0 (nI i) pA cA bA sA wA mj mt mb mw ms md qb qc qv
  | 0, i, h, hl, K => by obtain ⟨l, l1, l2, _⟩ := hl; omega
  | f + 1, i, h, hl, K => by
    have hc' := hc
    obtain ⟨c1, c2, b1, b2, t1, t2, s1, s2⟩ := hc
    have := hp i (by omega)
    refine br_f (nI_ge (by omega) (by omega)) (br_t rfl ?_)
    rw [tc_c8]
    refine ⟨tc_vin (by omega) (by omega), ?_⟩
    rw [tc_cl (by omega), hN i (by omega)]
    simp only [tc_fi] at K
    by_cases e : p i = d
    · rw [if_pos e] at K
      refine br_t (by rw [e]) ⟨tc_vin (by omega) (by omega), nm_e (nm_r (nI_1 i) ?_)⟩
      rw [tc_8p]
      by_cases q : T ≤ i + 1
      · exact br_t (nI_le (by omega) (by omega)) K
      · exact br_f (nI_ge (by omega) (by omega)) (br_f (by decide) K)
    · rw [if_neg e] at K
      obtain ⟨l, l1, l2, l3⟩ := hl
      have : l ≠ i := fun z => e (by rw [← z]; exact l3)
      exact br_f (fun z => e ((tc_eq (by omega) (by omega)).mp z)) (nm_r (nI_1 i) (ty_194 hc' hb hd hs hp hN f (i + 1) (by omega) ⟨l, by omega, by omega, l3⟩ K))
theorem tc_W_p {K : Nat} (hc : tc_CF C B T S) (hW : tc_W0 C B T S K k m) (hb : b < B) : tc_PS T (k b).1 := by
  obtain ⟨c1, c2, b1, b2, t1, t2, s1, s2⟩ := hc
  have h1 := hW.1 b hb
  revert h1
  rcases k b with ⟨p, c, e, t, w⟩
  intro h1 i hi
  rcases h1.1 i hi with q | ⟨s', q1, q2, q3, q4⟩
  · simp only; omega
  · simp only; omega
theorem ty_deliver {K : Nat} (hc : tc_CF C B T S) (hK : K < 9999) (hs : s < S) (h0 : (m s).1 ≠ 0) (hW : tc_W0 C B T S K k m) (hR : tc_RY C B T S k m L u)
    (H : ∀ u', tc_RY C B T S (tc_dk T s k m) (tc_dm T s k m) L u' → post (if (tc_dm T s k m s).1 = 0 then 0 else 1) u') : wpY_deliver post u (nI s) := by
  have hc' := hc
  obtain ⟨c1, c2, b1, b2, t1, t2, s1, s2⟩ := hc
  have hk5 := tc_kd5 hW s hs
  have hk5' : (tc_dm T s k m s).1 < 5 := by
    have hW' := tc_dB_W c2 (by omega) hs hW (fun z => h0 (by rw [z]; rfl))
    exact tc_kd5 hW'.1 s hs
  have fin : ∀ u', tc_RY C B T S (tc_dk T s k m) (tc_dm T s k m) L u' → (match u' with | (f_caches, f_blocks, f_tokens, f_slots, f_entries, pA, cA, bA, sA, wA, mj, mt, mb, mw, ms, md, qb, qc, qv) => wY_deliver_367 post (nI s) f_caches f_blocks f_tokens f_slots f_entries pA cA bA sA wA mj mt mb mw ms md qb qc qv) :=
    fun u' h' => ty_367 hc' hs hk5' h' H
  have hWm := hW.2 s hs
  have hR' := hR
  refine tc_RYe (P := fun u => tc_RY C B T S k m L u → wpY_deliver post u (nI s)) ?_ hR hR'
  intro pA cA bA sA wA mj mt mb mw ms md qb qc qv hN hM hQ hR''
  have hM' := hM s hs
  unfold tc_dk tc_dm at fin H
  rcases hm : m s with ⟨a, d, b, y, st, v⟩
  rw [hm] at hWm h0 hM' hk5
  simp only [hm] at fin H
  simp only at h0 hk5
  obtain ⟨q1, q2⟩ := hM'
  obtain ⟨q2, q3, q4, q5, q6⟩ := q2 h0
  simp only at q1 q2 q3 q4 q5 q6
  rcases hWm with h | ⟨hb, hd, h⟩
  · exact absurd (congrArg (fun r : tc_MG => r.1) h) h0
  have he := tc_W_e hW hb hd
  have ht := tc_W_t hW hb hd
  have hp := tc_W_p hc' hW hb
  have hct := tc_ct_le (k b).1 d T
  have g := (hN b hb).2.2 d hd
  have g4 : bA (d * 4 + b) = tc_nz ((k b).2.2.1 d) := g.2.1
  have g5 : sA (d * 4 + b) = nI ((k b).2.2.2.1 d) := g.2.2
  have g3 : cA (d * 4 + b) = (k b).2.1 d := g.1
  have g0 : pA (b * 8) = nI ((k b).1 0) := (hN b hb).2.1 0 (by omega)
  have hp0 := hp 0 (by omega)
  have R0 := (show tc_RY C B T S k (tc_f1 m s tc_EMP) L (nI C, nI B, nI T, nI S, nI L.length, pA, cA, bA, sA, wA, upd mj s 0, mt, mb, mw, ms, md, qb, qc, qv) from ⟨rfl, rfl, rfl, rfl, rfl, hN, tc_YM_clr hM, hQ⟩)
  simp (disch := omega) only [wpY_deliver, q1, q2, q3, tc_lt0, tc_le, tc_vin, tc_cl, forall_eq, true_and, false_implies, not_false_eq_true, forall_const, tc_eq0, tc_c4]
  refine br_f (by omega) (br_f h0 ?_)
  refine ty_tokensAt hc' hb (by omega) hp hR'' ?_
  rcases h with ⟨e1 | e1, e2, e3, e4⟩ | ⟨e1, e2, e3, e4⟩ | ⟨e1, e2, e3, e4, e5⟩
  · -- a read request
    subst e1
    have q4 := q4 (by decide)
    rw [tc_nzl (by omega)] at q4
    rw [q4]
    refine br_f (by decide) (br_f (by decide) ?_)
    unfold wY_deliver_123
    rw [tc_cl (by omega), tc_cl (by omega), tc_m8, tc_cl (by omega), g4, g0, g3]
    refine ⟨tc_vin (by omega) (by omega), nm_e (br_t rfl ⟨tc_vin (by omega) (by omega), ?_⟩)⟩
    rcases hk : k b with ⟨p, c, e, t, w⟩
    rw [hk] at fin hp hct hp0 he
    simp only [tc_dB, show ¬ ((1 : Nat) = 3) by decide, show ¬ ((1 : Nat) = 4) by decide, if_false, if_true] at fin
    simp only at hct hp hp0 he ⊢
    by_cases h1 : e d = 9999
    · refine br_t (by rw [h1]; exact tc_nzN) ⟨tc_vin (by omega) (by omega), ?_⟩
      by_cases h2 : p 0 = d
      · rw [if_pos ⟨h1, h2⟩] at fin
        refine br_t (by rw [h2]) ?_
        by_cases h3 : 2 ≤ tc_ct p d T
        · rw [if_pos h3] at fin
          refine br_f (by rw [tc_lt2 (by omega)]; omega) ⟨tc_vin (by omega) (by omega), ?_⟩
          refine ty_put (a := 3) (y := 9999) (st := 9999) (dat := c d) hc' hs (fun q => absurd rfl q) (fun q => absurd q (by decide)) (fun _ => rfl) R0 (fun u' h' => ?_)
          revert u'
          refine tc_RYi ?_
          clear hN hM hQ hR'' g0 g3 g4 g5 q1 q2 q3 q4 q5 q6 g R0
          intro pA cA bA sA wA mj mt mb mw ms md qb qc qv hN hM hQ
          obtain ⟨j, j1, j2, j3, j4⟩ := tc_gv_ok h3
          have eg : tc_gv T p d (8 + s) = tc_f1 p j (8 + s) := by rw [tc_gv, j4]
          rw [eg] at fin
          refine ⟨T - 1 + 1, ty_194 (p := p) (f := T - 1) (i := 1) hc' hb hd hs hp (fun i hi => ?_) (by omega) ⟨j, by omega, by omega, j3⟩ ?_⟩
          · have := (hN b hb).2.1 i hi
            rw [hk] at this
            exact this
          · rw [j4]
            unfold wY_deliver_251
            refine ty_264 (u := (nI C, nI B, nI T, nI S, nI L.length, upd pA (b * 8 + j) (nI (8 + s)), cA, bA, sA, wA, mj, mt, mb, mw, ms, md, qb, qc, qv)) (by decide) (by decide) (fin (nI C, nI B, nI T, nI S, nI L.length, upd pA (b * 8 + j) (nI (8 + s)), cA, bA, sA, wA, mj, mt, mb, mw, ms, md, qb, qc, qv) ⟨rfl, rfl, rfl, rfl, rfl, ?_, ?_, hQ⟩)
            · have gg := hN b hb
              rw [hk] at gg
              refine tc_YN_b hN gg.1 (fun i hi => ?_) gg.2.2 (fun b' hb' e' => ⟨rfl, fun i hi => pk_un (by omega), fun _ _ => ⟨rfl, rfl, rfl⟩⟩)
              show _ = nI (tc_f1 p j (8 + s) i)
              by_cases e' : i = j
              · rw [e', pk_us, tc_f1s]
              · rw [pk_un (by omega), tc_f1n e']; exact gg.2.1 i hi
            · rw [tc_ff] at hM
              exact hM
        · rw [if_neg h3] at fin
          refine br_t (by rw [tc_lt2 (by omega)]; omega) ?_
          refine ty_sendAll hc' hs hb hd (by rw [hk]; exact hp) R0 (fun u' h' => ?_)
          rw [hk, tc_ff] at h'
          exact ty_264 (by decide) (by decide) (fin u' h')
      · rw [if_neg (fun z => h2 z.2), ← hk, tc_f1id] at fin
        exact br_f (fun z => h2 ((tc_eq (by omega) (by omega)).mp z)) (ty_264 (u := (nI C, nI B, nI T, nI S, nI L.length, pA, cA, bA, sA, wA, upd mj s 0, mt, mb, mw, ms, md, qb, qc, qv)) (by decide) (by decide) (fin _ R0))
    · rw [if_neg (fun z => h1 z.1), ← hk, tc_f1id] at fin
      exact br_f (fun z => h1 ((tc_nz_m2 (by omega)).mp z)) (ty_264 (u := (nI C, nI B, nI T, nI S, nI L.length, pA, cA, bA, sA, wA, upd mj s 0, mt, mb, mw, ms, md, qb, qc, qv)) (by decide) (by decide) (fin _ R0))
  · -- a write request
    subst e1
    have q4 := q4 (by decide)
    rw [tc_nzl (by omega)] at q4
    rw [q4]
    refine br_f (by decide) (br_f (by decide) ?_)
    unfold wY_deliver_123
    rw [tc_cl (by omega)]
    refine ⟨tc_vin (by omega) (by omega), nm_e (br_f (by decide) (br_t rfl ⟨tc_vin (by omega) (by omega), ?_⟩))⟩
    rw [tc_cl (by omega), g4]
    rcases hk : k b with ⟨p, c, e, t, w⟩
    rw [hk] at fin hp hct hp0 he
    simp only [tc_dB, show ¬ ((2 : Nat) = 3) by decide, show ¬ ((2 : Nat) = 4) by decide, show ¬ ((2 : Nat) = 1) by decide, if_false, if_true] at fin
    simp only at hct hp hp0 he ⊢
    by_cases h1 : e d = 9999
    · refine br_t (by rw [h1]; exact tc_nzN) ?_
      by_cases h2 : tc_ct p d T = 0
      · rw [if_neg (by omega), ← hk, tc_f1id] at fin
        exact br_t (by rw [tc_le0 (by omega)]; exact h2) (ty_296 (u := (nI C, nI B, nI T, nI S, nI L.length, pA, cA, bA, sA, wA, upd mj s 0, mt, mb, mw, ms, md, qb, qc, qv)) (by decide) (fin _ R0))
      · rw [if_pos (by omega)] at fin
        refine br_f (by rw [tc_le0 (by omega)]; exact h2) ?_
        refine ty_sendAll hc' hs hb hd (by rw [hk]; exact hp) R0 (fun u' h' => ?_)
        rw [hk, tc_ff] at h'
        exact ty_296 (by decide) (fin u' h')
    · rw [if_neg (by omega), ← hk, tc_f1id] at fin
      exact br_f (fun z => h1 ((tc_nz_m2 (by omega)).mp z)) (ty_296 (u := (nI C, nI B, nI T, nI S, nI L.length, pA, cA, bA, sA, wA, upd mj s 0, mt, mb, mw, ms, md, qb, qc, qv)) (by decide) (fin _ R0))
  · -- tokens
    subst e1
    have hT : (tc_dB T s (k b) (3, d, b, y, st, v)) = if (k b).2.2.1 d = 9999 ∨ (k b).2.2.1 d = d then (tc_tB s d v (k b), tc_EMP) else (k b, (3, (k b).2.2.1 d, b, y, st, v)) := by
      rcases k b with ⟨p, c, e, t, w⟩
      simp only [tc_dB, if_true]
    rw [hT] at fin H
    have take : ((k b).2.2.1 d = 9999 ∨ (k b).2.2.1 d = d) → wY_deliver_113 post (nI s) (nI 3) (nI d) (nI b) (mw s) (nI (d * 4 + b)) (nI (tc_ct (k b).1 d T)) (nI C) (nI B) (nI T) (nI S) (nI L.length) pA cA bA sA wA mj mt mb mw ms md qb qc qv := by
      intro h1
      rw [if_pos h1] at fin
      refine br_t rfl (ty_takeIn hc' hs hb hd hp hm hR'' (fun u' h' => ?_))
      revert u'
      refine tc_RYi ?_
      generalize mw s = yy
      clear hN hM hQ hR'' g0 g3 g4 g5 q1 q2 q3 q4 q5 q6 g R0
      intro pA cA bA sA wA mj mt mb mw ms md qb qc qv hN hM hQ
      unfold wY_deliver_123
      rw [tc_cl (by omega)]
      refine ⟨tc_vin (by omega) (by omega), nm_e (br_f (by decide) ?_)⟩
      refine ty_264 (u := (nI C, nI B, nI T, nI S, nI L.length, pA, cA, bA, sA, wA, upd mj s 0, mt, mb, mw, ms, md, qb, qc, qv)) (by decide) (by decide) (fin (nI C, nI B, nI T, nI S, nI L.length, pA, cA, bA, sA, wA, upd mj s 0, mt, mb, mw, ms, md, qb, qc, qv) ⟨rfl, rfl, rfl, rfl, rfl, hN, ?_, hQ⟩)
      have := tc_YM_clr (s := s) hM
      rw [tc_ff] at this
      exact this
    refine br_t rfl ?_
    rw [g4]
    by_cases h1 : (k b).2.2.1 d = 9999
    · exact br_t (by rw [h1]; exact tc_nzN) (take (Or.inl h1))
    · refine br_f (fun z => h1 ((tc_nz_m2 (by omega)).mp z)) ?_
      by_cases h2 : (k b).2.2.1 d = d
      · exact br_t (by rw [h2]; exact tc_nzl (by omega)) (take (Or.inr h2))
      · refine br_f (fun z => h2 ((tc_nz_nI (by omega) (by omega)).mp z)) ?_
        rw [if_neg (by omega), tc_f1id] at H
        rw [tc_f1s, if_neg (show ¬ ((3 : Nat) = 0) by decide)] at H
        refine H _ ⟨rfl, rfl, rfl, rfl, rfl, hN, fun s' hs' => ?_, hQ⟩
        by_cases e' : s' = s
        · rw [e', tc_f1s, pk_us]
          exact ⟨q1, fun _ => ⟨tc_nzl (by omega), q3, fun z => absurd rfl z, fun z => absurd z (show ¬ (3 : Nat) = 4 by decide), q6⟩⟩
        · rw [tc_f1n e', pk_un e']; exact hM s' hs'
  · -- a notice
    subst e1
    have q4 := q4 (by decide)
    have q5 := q5 rfl
    rw [q4]
    refine br_f (by decide) (br_f (by decide) ?_)
    unfold wY_deliver_123
    rw [tc_cl (by omega)]
    refine ⟨tc_vin (by omega) (by omega), nm_e (br_f (by decide) (br_f (by decide) (br_t rfl ⟨tc_vin (by omega) (by omega), tc_vin (by omega) (by omega), ?_⟩)))⟩
    rw [tc_cl (by omega), tc_cl (by omega), g5, q5]
    rcases hk : k b with ⟨p, c, e, t, w⟩
    rw [hk] at fin hp hct hp0 he ht
    simp only [tc_dB, show ¬ ((4 : Nat) = 3) by decide, if_false, if_true] at fin
    rw [hk] at e4
    simp only at hct hp hp0 he ht e4 ⊢
    by_cases h1 : st ≤ t d
    · rw [if_pos h1, ← hk, tc_f1id] at fin
      exact br_t (nI_le h1 (by omega)) (fin _ R0)
    · rw [if_neg h1] at fin
      refine br_f (fun z => h1 ((tc_le (by omega) (by omega)).mp z)) ⟨tc_vin (by omega) (by omega), tc_vin (by omega) (by omega), nm_e ⟨tc_vin (by omega) (by omega), nm_e ?_⟩⟩
      have R1 := (show tc_RY C B T S (tc_f1 k b (p, c, tc_f1 e d y, tc_f1 t d st, w)) (tc_f1 m s tc_EMP) L (nI C, nI B, nI T, nI S, nI L.length, pA, cA, upd bA (d * 4 + b) (tc_nz y), upd sA (d * 4 + b) (nI st), wA, upd mj s 0, mt, mb, mw, ms, md, qb, qc, qv) from by
        have gg := hN b hb
        rw [hk] at gg
        refine ⟨rfl, rfl, rfl, rfl, rfl, tc_YN_b hN gg.1 gg.2.1 (fun n' hn' => ?_) (fun b' hb' e' => ⟨rfl, fun _ _ => rfl, fun n' hn' => ⟨rfl, tc_vx e' (by omega) (by omega), tc_vx e' (by omega) (by omega)⟩⟩), tc_YM_clr hM, hQ⟩
        have g' := gg.2.2 n' hn'
        refine ⟨g'.1, ?_, ?_⟩
        · show _ = tc_nz (tc_f1 e d y n')
          rw [tc_vi]
          by_cases e' : n' = d
          · rw [if_pos e', e', tc_f1s]
          · rw [if_neg e', tc_f1n e']; exact g'.2.1
        · show _ = nI (tc_f1 t d st n')
          rw [tc_vi]
          by_cases e' : n' = d
          · rw [if_pos e', e', tc_f1s]
          · rw [if_neg e', tc_f1n e']; exact g'.2.2)
      by_cases h2 : y = 9999
      · rw [if_pos (Or.inl h2)] at fin
        exact br_t (by rw [h2]; exact tc_nzN) (fin _ R1)
      · refine br_f (fun z => h2 ((tc_nz_m2 (by omega)).mp z)) ?_
        by_cases h3 : y = d
        · rw [if_pos (Or.inr (Or.inl h3))] at fin
          exact br_t (by rw [h3]; exact tc_nzl (by omega)) (fin _ R1)
        · refine br_f (fun z => h3 ((tc_nz_nI (by omega) (by omega)).mp z)) ?_
          by_cases h4 : tc_ct p d T = 0
          · rw [if_pos (Or.inr (Or.inr h4))] at fin
            exact br_t (by rw [tc_le0 (by omega)]; exact h4) (fin _ R1)
          · rw [if_neg (by omega)] at fin
            refine br_f (by rw [tc_le0 (by omega)]; exact h4) ?_
            rw [tc_nzl (by omega)] at R1 ⊢
            refine ty_sendAll hc' hs hb hd (by rw [tc_f1s]; exact hp) R1 (fun u' h' => ?_)
            rw [tc_f1s, tc_ff, tc_ff] at h'
            exact fin u' h'
end
end
section
/-! announce on the abstract state -/
def tc_q1 (C h : Nat) (q : tc_BS) : tc_BS := (q.1, q.2.1, tc_f1 q.2.2.1 C h, tc_f1 q.2.2.2.1 C (q.2.2.2.1 C + 1), q.2.2.2.2)
def tc_a1 (C S b h : Nat) (k : Nat → tc_BS) (m : Nat → tc_MG) : Nat → tc_MG := tc_an S b h ((k b).2.2.2.1 C + 1) m C
def tc_ak (C T S b h : Nat) (k : Nat → tc_BS) (m : Nat → tc_MG) : Nat → tc_BS :=
  if h = 9999 ∨ tc_ct (k b).1 C T = 0 then tc_f1 k b (tc_q1 C h (k b)) else tc_f1 k b (tc_sB (tc_fe S (tc_a1 C S b h k m)) C h b (tc_q1 C h (k b))).1
def tc_am (C T S b h : Nat) (k : Nat → tc_BS) (m : Nat → tc_MG) : Nat → tc_MG :=
  if h = 9999 ∨ tc_ct (k b).1 C T = 0 then tc_a1 C S b h k m else tc_f1 (tc_a1 C S b h k m) (tc_fe S (tc_a1 C S b h k m)) (tc_sB (tc_fe S (tc_a1 C S b h k m)) C h b (tc_q1 C h (k b))).2
theorem tc_WB_K {C T S K K' b : Nat} {m : Nat → tc_MG} {q : tc_BS} (hK : K ≤ K') (h : tc_WB C T S K m b q) : tc_WB C T S K' m b q := by
  rcases q with ⟨p, c, e, t, w⟩
  exact ⟨h.1, ⟨h.2.1.1, Nat.le_trans h.2.1.2 hK⟩, h.2.2⟩
theorem tc_W0_K {C B T S K K' : Nat} {k : Nat → tc_BS} {m : Nat → tc_MG} (hK : K ≤ K') (h : tc_W0 C B T S K k m) : tc_W0 C B T S K' k m :=
  ⟨fun b hb => tc_WB_K hK (h.1 b hb), h.2⟩
theorem tc_ann_W {C B T S K b h : Nat} {k : Nat → tc_BS} {m : Nat → tc_MG} (hC : C ≤ 4) (hb : b < B) (hh : h < C ∨ h = 9999) (hf : C + 1 ≤ tc_fr S m) (hW : tc_W0 C B T S K k m) :
    tc_W0 C B T S (K + 1) (tc_ak C T S b h k m) (tc_am C T S b h k m) ∧ tc_PB C T S (tc_am C T S b h k m) h b (tc_ak C T S b h k m b) ∧
    (∀ b' h', b' ≠ b → tc_PB C T S m h' b' (k b') → tc_PB C T S (tc_am C T S b h k m) h' b' (tc_ak C T S b h k m b')) ∧ ∀ b', b' ≠ b → tc_ak C T S b h k m b' = k b' := by
  have hWb := hW.1 b hb
  obtain ⟨g1, g2, g3, g4⟩ := tc_an_ok (S := S) (b := b) (y := h) (st := (k b).2.2.2.1 C + 1) (m := m) C (by omega)
  have hWM := hW.2
  unfold tc_ak tc_am
  have e1 : tc_a1 C S b h k m = tc_an S b h ((k b).2.2.2.1 C + 1) m C := rfl
  rw [e1]
  rcases hk : k b with ⟨p, c, e, t, w⟩
  rw [hk] at hWb g1 g2 g3 g4
  simp only at g1 g2 g3 g4 ⊢
  generalize hm1 : tc_an S b h (t C + 1) m C = m1 at g1 g2 g3 g4 ⊢
  obtain ⟨f1, f2⟩ := tc_fe_ok (S := S) (m := m1) (by omega)
  generalize tc_fe S m1 = s0 at f1 f2 ⊢
  obtain ⟨gp, gt, ge, gc⟩ := hWb
  have et : tc_f1 t C (t C + 1) C = t C + 1 := tc_f1s _ _ _
  have k1C : ∀ bb, (k bb).2.2.2.1 C ≤ (tc_f1 k b (p, c, tc_f1 e C h, tc_f1 t C (t C + 1), w) bb).2.2.2.1 C := by
    intro bb
    by_cases z : bb = b
    · rw [z, tc_f1s, hk]
      show t C ≤ tc_f1 t C (t C + 1) C
      rw [et]; omega
    · rw [tc_f1n z]; exact Nat.le_refl _
  have k1p : ∀ bb, (tc_f1 k b (p, c, tc_f1 e C h, tc_f1 t C (t C + 1), w) bb).1 = (k bb).1 := by
    intro bb
    by_cases z : bb = b
    · rw [z, tc_f1s, hk]
    · rw [tc_f1n z]
  have Wp : ∀ bb pp, tc_Wp C T S m bb pp → tc_Wp C T S m1 bb pp := by
    intro bb pp q i hi
    rcases q i hi with z | ⟨s', z1, z2, z3, z4⟩
    · exact Or.inl z
    · have := g2 s' (by omega)
      exact Or.inr ⟨s', z1, z2, by rw [this]; exact z3, by rw [this]; exact z4⟩
  have Wt1 : tc_Wt C (K + 1) (tc_f1 t C (t C + 1)) := by
    refine ⟨fun n hn => ?_, by rw [et]; have := gt.2; omega⟩
    rw [et]
    by_cases z : n = C
    · rw [z, et]; omega
    · rw [tc_f1n z]; have := gt.1 n hn; omega
  have We1 : tc_We C (tc_f1 e C h) := tc_We_hear ge hh
  have W1 : tc_W0 C B T S (K + 1) (tc_f1 k b (p, c, tc_f1 e C h, tc_f1 t C (t C + 1), w)) m1 := by
    refine ⟨fun b' hb' => ?_, fun s hs => ?_⟩
    · by_cases z : b' = b
      · rw [z, tc_f1s]; exact ⟨Wp b p gp, Wt1, We1, gc⟩
      · rw [tc_f1n z]
        have := hW.1 b' hb'
        revert this
        rcases k b' with ⟨p', c', e', t', w'⟩
        intro q
        exact ⟨Wp b' p' q.1, ⟨q.2.1.1, by have := q.2.1.2; omega⟩, q.2.2⟩
    · rcases g3 s with z | ⟨z1, j, z2, z3⟩
      · rw [z]
        have := hWM s hs
        revert this
        rcases m s with ⟨a, d, bb, y, st, v⟩
        intro q
        rcases q with q | ⟨q1, q2, q⟩
        · exact Or.inl q
        · refine Or.inr ⟨q1, q2, ?_⟩
          rw [k1p bb]
          rcases q with q | q | ⟨q3, q4, q5, q6, q7⟩
          · exact Or.inl q
          · exact Or.inr (Or.inl q)
          · exact Or.inr (Or.inr ⟨q3, q4, q5, Nat.le_trans q6 (k1C bb), q7⟩)
      · rw [z3]
        refine Or.inr ⟨hb, by omega, Or.inr (Or.inr ⟨rfl, z2, hh, ?_, rfl⟩)⟩
        rw [tc_f1s]
        exact Nat.le_of_eq et.symm
  have P1 : tc_P1 S m1 h b (t C + 1) := by
    intro s hs ha hbk hst
    rcases g3 s with z | ⟨z1, j, z2, z3⟩
    · exfalso
      rw [z] at ha hbk hst
      have := hWM s hs
      revert this ha hbk hst
      rcases m s with ⟨a, d, bb, y, st, v⟩
      intro ha hbk hst q
      simp only at ha hbk hst
      subst ha hbk
      rcases q with q | ⟨q1, q2, q⟩
      · exact absurd (congrArg (fun r : tc_MG => r.1) q) (show ¬ (4 : Nat) = 0 by decide)
      · rw [hk] at q
        simp only at q
        omega
    · rw [z3]
  have P2 : ∀ pp, (h = 9999 ∨ tc_ct pp C T = 0) → tc_P2 C T h pp (tc_f1 e C h) (tc_f1 t C (t C + 1)) := by
    intro pp q n hn ht
    rw [et] at ht
    have z : n = C := by
      refine Classical.byContradiction fun z => ?_
      rw [tc_f1n z] at ht
      have := gt.1 n hn
      omega
    rw [z, tc_f1s]
    refine ⟨rfl, fun a _ => ?_⟩
    rcases q with q | q
    · exact absurd q a
    · exact q
  have P3 : tc_P3 C S m1 h b (tc_f1 t C (t C + 1)) := by
    intro n hn
    rw [et]
    exact Or.inr (g4 n hn)
  have PO : ∀ b' h', b' ≠ b → tc_PB C T S m h' b' (k b') → tc_PB C T S m1 h' b' (k b') := by
    intro b' h' hne
    rcases k b' with ⟨p', c', e', t', w'⟩
    intro q
    refine ⟨fun s hs ha hbk hst => ?_, q.2.1, fun n hn => ?_⟩
    · rcases g3 s with z | ⟨z1, j, z2, z3⟩
      · rw [z] at ha hbk hst ⊢; exact q.1 s hs ha hbk hst
      · rw [z3] at hbk; exact absurd hbk.symm hne
    · rcases q.2.2 n hn with z | ⟨s', z1, z2⟩
      · exact Or.inl z
      · exact Or.inr ⟨s', z1, by rw [g2 s' (by rw [z2]; show ¬ (4 : Nat) = 0; decide)]; exact z2⟩
  by_cases hx : h = 9999 ∨ tc_ct p C T = 0
  · rw [if_pos hx, if_pos hx]
    refine ⟨W1, ?_, fun b' h' hne hP => ?_, fun b' hne => tc_f1n hne⟩
    · rw [tc_f1s]
      refine ⟨?_, P2 p hx, P3⟩
      rw [et]; exact P1
    · rw [tc_f1n hne]; exact PO b' h' hne hP
  · rw [if_neg hx, if_neg hx]
    have W2 := tc_locW (s := s0) (b := b) (q := (tc_sB s0 C h b (tc_q1 C h (p, c, e, t, w))).1) (x := (tc_sB s0 C h b (tc_q1 C h (p, c, e, t, w))).2) W1 (fun z => by omega)
      ⟨tc_Wp_send (Wp b p gp) f1 (by omega) rfl rfl, Wt1, We1, tc_Wc_send hC gc⟩ (Or.inr ⟨hb, by show h ≤ C; omega, Or.inr (Or.inl ⟨rfl, rfl, rfl, by
        show 0 < tc_ct (tc_f1 _ b (tc_sB s0 C h b (tc_q1 C h (p, c, e, t, w))).1 b).1 (8 + s0) T
        rw [tc_f1s]
        show 0 < tc_ct (tc_mv p C (8 + s0)) (8 + s0) T
        rw [tc_ct_mvt (by omega)]; omega⟩)⟩) (fun s' _ hne _ _ => by
        rw [tc_f1s]
        exact tc_ct_mvn (by omega) (by omega) T) (by rw [tc_f1s]; exact Nat.le_refl _)
    rw [tc_ff] at W2
    refine ⟨W2, ?_, fun b' h' hne hP => ?_, fun b' hne => tc_f1n hne⟩
    · rw [tc_f1s]
      refine ⟨?_, P2 _ (Or.inr (tc_ct_mvf (by omega) T)), tc_P3_keep P3 (by omega)⟩
      show tc_P1 S _ h b (tc_f1 t C (t C + 1) C)
      rw [et]
      exact tc_P1_keep P1 (show (3 : Nat) ≠ 4 by decide)
    · rw [tc_f1n hne]
      exact tc_PB_other hne (fun z => by omega) (fun z => absurd z (show ¬ (3 : Nat) = 4 by decide)) (PO b' h' hne hP)
end
section
/-! X: queue, write, announce -/
def tc_qp (n : Nat) : tc_QL → Nat → Nat
  | [], _ => 0
  | x :: l, i => if x.2.1 = n then i + 1 else tc_qp n l (i + 1)
section
variable {C B T S : Nat} {k : Nat → tc_BS} {m : Nat → tc_MG} {L : tc_QL} {u : SX} {s b n d y st : Nat} {v : Int32}
theorem tc_and3 (h : Nat) (hh : h < 100) : nI h &&& 3 = nI (h % 4) := pk_andN (n := h) (by omega) 2 (by decide)
theorem tx_headOf {post : Int32 → Prop} (hc : tc_CF C B T S) (hb : b < B) (hL : tc_LO C B L) (hR : tc_RX C B T S k m L u) (H : post (tc_nz (tc_hd b L))) : wpX_headOf post u (nI b) := by
  obtain ⟨c1, c2, b1, b2, t1, t2, s1, s2⟩ := hc
  refine tc_RXe (P := fun u => wpX_headOf post u (nI b)) ?_ hR
  intro hA oA cA bA sA qA pA hQ lQ wA mj mt mb mw ms mc mo md hN hQ' hM
  obtain ⟨h, h1, h2, h3, h4⟩ := hQ' b hb
  have hl := tc_qs_len c2 hL b
  have ho := tc_hd_ok hL b
  simp (disch := omega) only [wpX_headOf, tc_vin, tc_cl, true_and, h2, h3, tc_c4, tc_eq0]
  rw [tc_hd_qs] at H ho
  rcases e : tc_qs b L with _ | ⟨x, l⟩
  · rw [e] at H
    exact br_t rfl H
  · have h5 := (h4 0 x (by rw [e]; rfl)).1
    rw [e] at H ho
    have z : (h + 0) % 4 = h := by omega
    rw [z] at h5
    refine br_f (by simp) ?_
    rw [h5]
    have : tc_h0 (x :: l) = x.2.1 := rfl
    rw [this] at H ho
    rw [tc_nzl] at H
    · exact H
    · rcases ho with ho | ho
      · omega
      · exfalso
        have : x ∈ tc_qs b L := by rw [e]; exact List.mem_cons_self
        have := (hL.1 x (tc_qs_mem.mp this).1).2
        omega
theorem tx_pl2 {post : Int32 → Prop} {hA oA cA bA sA qA pA hQ lQ wA mj mt mb mw ms mc mo md : Nat → Int32} (hc : tc_CF C B T S) (hb : b < B) (hn : n ≤ C) (hL : tc_LO C B L) (hQ' : tc_XQ B L qA pA hQ lQ) : ∀ (l : tc_QL) (i : Nat), i ≤ 4 → (tc_qs b L).drop i = l →
    post (nI (tc_qp n l i)) → wX_placeOf_2 post (nI n) (nI b) (nI C) (nI B) (nI T) (nI S) hA oA cA bA sA qA pA hQ lQ wA mj mt mb mw ms mc mo md (l.length + 1) (nI i)
  | [], i, hi4, h, hp => by
    obtain ⟨c1, c2, b1, b2, t1, t2, s1, s2⟩ := hc
    obtain ⟨h', h1, h2, h3, h4⟩ := hQ' b hb
    have hl := tc_qs_len c2 hL b
    have := List.drop_eq_nil_iff.mp h
    refine ⟨tc_vin (by omega) (by omega), ?_⟩
    rw [tc_cl (by omega), h3]
    exact br_t (nI_le (by omega) (by omega)) hp
  | x :: l, i, hi4, h, hp => by
    have hc' := hc
    obtain ⟨c1, c2, b1, b2, t1, t2, s1, s2⟩ := hc
    have hQ2 := hQ'
    obtain ⟨h', h1, h2, h3, h4⟩ := hQ' b hb
    have hl := tc_qs_len c2 hL b
    have hi : i < (tc_qs b L).length := by
      refine Nat.lt_of_not_le fun z => ?_
      rw [List.drop_eq_nil_of_le z] at h
      exact absurd h (by simp)
    have hx : (tc_qs b L)[i]? = some x := by
      have : ((tc_qs b L).drop i)[0]? = some x := by rw [h]; rfl
      rw [List.getElem?_drop] at this
      exact this
    have ht : (tc_qs b L).drop (i + 1) = l := by
      rw [← List.tail_drop, h]; rfl
    have hx4 : x.2.1 < C := (hL.1 x (tc_qs_mem.mp (List.mem_of_getElem? hx)).1).2
    refine ⟨tc_vin (by omega) (by omega), ?_⟩
    rw [tc_cl (by omega), h3]
    refine br_f (nI_ge (by omega) (by omega)) ⟨tc_vin (by omega) (by omega), ?_⟩
    rw [h2, nI_add]
    refine nm_r (tc_and3 (h' + i) (by omega)) ?_
    rw [tc_c4]
    refine ⟨tc_vin (by omega) (by omega), ?_⟩
    rw [tc_cl (by omega), (h4 i x hx).1]
    simp only [tc_qp] at hp
    by_cases e : x.2.1 = n
    · rw [if_pos e] at hp
      refine br_t (by rw [e]) ?_
      rw [nI_1]
      exact hp
    · rw [if_neg e] at hp
      exact br_f (fun z => e ((tc_eq (by omega) (by omega)).mp z)) (nm_r (nI_1 i) (tx_pl2 hc' hb hn hL hQ2 l (i + 1) (by omega) ht hp))
theorem tx_placeOf {post : Int32 → Prop} (hc : tc_CF C B T S) (hb : b < B) (hn : n ≤ C) (hL : tc_LO C B L) (hR : tc_RX C B T S k m L u) (H : post (nI (tc_qp n (tc_qs b L) 0))) : wpX_placeOf post u (nI n) (nI b) := by
  refine tc_RXe (P := fun u => wpX_placeOf post u (nI n) (nI b)) ?_ hR
  intro hA oA cA bA sA qA pA hQ lQ wA mj mt mb mw ms mc mo md hN hQ' hM
  exact ⟨_, tx_pl2 hc hb hn hL hQ' (tc_qs b L) 0 (by omega) rfl H⟩
theorem tx_joinQueue {post : SX → Prop} (hc : tc_CF C B T S) (hb : b < B) (hn : n < C) (hL : tc_LO C B (L ++ [(b, n, v)])) (hR : tc_RX C B T S k m L u)
    (H : ∀ u', tc_RX C B T S k m (L ++ [(b, n, v)]) u' → post u') : wpX_joinQueue post u (nI n) (nI b) v := by
  obtain ⟨c1, c2, b1, b2, t1, t2, s1, s2⟩ := hc
  refine tc_RXe (P := fun u => wpX_joinQueue post u (nI n) (nI b) v) ?_ hR
  intro hA oA cA bA sA qA pA hQ lQ wA mj mt mb mw ms mc mo md hN hQ' hM
  obtain ⟨h, h1, h2, h3, h4⟩ := hQ' b hb
  have hl := tc_qs_len c2 hL b
  have eq := tc_qs_app b L (b, n, v)
  rw [if_pos rfl] at eq
  rw [eq, List.length_append] at hl
  have hl : (tc_qs b L).length + 1 ≤ C := hl
  have ea : nI (h + (tc_qs b L).length) &&& 3 = nI ((h + (tc_qs b L).length) % 4) := tc_and3 _ (by omega)
  simp (disch := omega) only [wpX_joinQueue, tc_vin, tc_cl, true_and, forall_eq, h2, h3, nI_add, ea, tc_c4, nI_1]
  refine H _ ⟨rfl, rfl, rfl, rfl, hN, fun b' hb' => ?_, hM⟩
  by_cases e : b' = b
  · subst e
    refine ⟨h, h1, h2, ?_, fun i x hx => ?_⟩
    · rw [pk_us, eq, List.length_append]; rfl
    · rw [eq] at hx
      by_cases hi : i < (tc_qs b' L).length
      · rw [List.getElem?_append_left hi] at hx
        have h5 := h4 i x hx
        have hxm : x ∈ L := (tc_qs_mem.mp (List.mem_of_getElem? hx)).1
        have hxb : x.1 = b' := (tc_qs_mem.mp (List.mem_of_getElem? hx)).2
        have hx4 := (hL.1 x (List.mem_append_left _ hxm)).2
        have hne : x.2.1 ≠ n := by
          intro z
          have hnd := hL.2
          rw [List.map_append, List.nodup_append] at hnd
          exact hnd.2.2 (x.1 * 4 + x.2.1) (List.mem_map.mpr ⟨x, hxm, rfl⟩) (b' * 4 + n) (by simp) (by rw [hxb, z])
        rw [pk_un (by omega), pk_un (by omega)]
        exact h5
      · have hi' : i = (tc_qs b' L).length := by
          refine Classical.byContradiction fun z => ?_
          rw [List.getElem?_append_right (by omega), List.getElem?_eq_none] at hx
          · exact absurd hx (by simp)
          · show 1 ≤ _
            omega
        subst hi'
        rw [List.getElem?_append_right (Nat.le_refl _), Nat.sub_self] at hx
        have hx : (b', n, v) = x := Option.some.inj hx
        rw [← hx, pk_us, pk_us]
        exact ⟨rfl, rfl⟩
  · obtain ⟨h', g1, g2, g3, g4⟩ := hQ' b' hb'
    have eq' := tc_qs_app b' L (b, n, v)
    rw [if_neg (fun z => e z.symm), List.append_nil] at eq'
    rw [eq']
    refine ⟨h', g1, g2, by rw [pk_un e]; exact g3, fun i x hx => ?_⟩
    have h5 := g4 i x hx
    have hxm : x ∈ L := (tc_qs_mem.mp (List.mem_of_getElem? hx)).1
    have hx4 := (hL.1 x (List.mem_append_left _ hxm)).2
    rw [pk_un (by omega), pk_un (by omega)]
    exact h5
theorem tx_leaveQueue {post : SX → Prop} (hc : tc_CF C B T S) (hb : b < B) (hL : tc_LO C B L) (hq : tc_qs b L ≠ []) (hR : tc_RX C B T S k m L u)
    (H : ∀ u', tc_RX C B T S k m (tc_rm b L) u' → post u') : wpX_leaveQueue post u (nI b) := by
  obtain ⟨c1, c2, b1, b2, t1, t2, s1, s2⟩ := hc
  refine tc_RXe (P := fun u => wpX_leaveQueue post u (nI b)) ?_ hR
  intro hA oA cA bA sA qA pA hQ lQ wA mj mt mb mw ms mc mo md hN hQ' hM
  obtain ⟨h, h1, h2, h3, h4⟩ := hQ' b hb
  have hl := tc_qs_len c2 hL b
  have hpos : 0 < (tc_qs b L).length := List.length_pos_iff.mpr hq
  have ea : nI (h + 1) &&& 3 = nI ((h + 1) % 4) := tc_and3 _ (by omega)
  simp (disch := omega) only [wpX_leaveQueue, tc_vin, tc_cl, true_and, forall_eq, h2, h3, nI_1, ea, tc_sub1]
  refine H _ ⟨rfl, rfl, rfl, rfl, hN, fun b' hb' => ?_, hM⟩
  by_cases e : b' = b
  · subst e
    rw [tc_qs_rm]
    refine ⟨(h + 1) % 4, by omega, by rw [pk_us], by rw [pk_us, List.length_tail], fun i x hx => ?_⟩
    have hx' : (tc_qs b' L)[i + 1]? = some x := by
      rw [← List.drop_one, List.getElem?_drop, Nat.add_comm] at hx
      exact hx
    have := h4 (i + 1) x hx'
    have z : ((h + 1) % 4 + i) % 4 = (h + (i + 1)) % 4 := by omega
    rw [z]
    exact this
  · rw [tc_qs_rmn e, pk_un e, pk_un e]
    exact hQ' b' hb'
theorem tx_write {post : SX → Prop} (hc : tc_CF C B T S) (hb : b < B) (hn : n ≤ C) (hR : tc_RX C B T S k m L u)
    (H : ∀ u', tc_RX C B T S (tc_f1 k b ((k b).1, tc_f1 (k b).2.1 n v, (k b).2.2.1, (k b).2.2.2.1, v)) m L u' → post u') : wpX_write post u (nI n) (nI b) v := by
  obtain ⟨c1, c2, b1, b2, t1, t2, s1, s2⟩ := hc
  refine tc_RXe (P := fun u => wpX_write post u (nI n) (nI b) v) ?_ hR
  intro hA oA cA bA sA qA pA hQ lQ wA mj mt mb mw ms mc mo md hN hQ' hM
  simp (disch := omega) only [wpX_write, wpX_cell, tc_c5, tc_vin, tc_cl, true_and, forall_eq]
  refine H _ ⟨rfl, rfl, rfl, rfl, tc_XN_b hN (pk_us (k := b)) (fun n' hn' => ?_) (fun b' n' _ hb' hn' => ?_), hQ', fun s hs => tc_XM_k (S := S) (fun _ => tc_keepmv rfl Iff.rfl) (hM s hs)⟩
  · have g := (hN b hb).2 n' hn'
    refine ⟨g.1, g.2.1, ?_, g.2.2.2.1, g.2.2.2.2⟩
    show _ = tc_f1 (k b).2.1 n v n'
    rw [tc_ui]
    by_cases e : n' = n
    · rw [if_pos e, e, tc_f1s]
    · rw [if_neg e, tc_f1n e]; exact g.2.2.1
  · rw [pk_un hb']
    simp (disch := omega) only [tc_ux, and_self]
end
end
section
/-! X: announce, request -/
section
variable {C B T S K : Nat} {k : Nat → tc_BS} {m : Nat → tc_MG} {L : tc_QL} {s b n d h y st : Nat} {v : Int32}
theorem tc_an5 (hk : ∀ s, s < S → (m s).1 < 5) (hd : d ≤ tc_fr S m) : ∀ s, s < S → (tc_an S b h st m d s).1 < 5 := by
  intro s hs
  rcases (tc_an_ok (S := S) (b := b) (y := h) (st := st) (m := m) d hd).2.2.1 s with z | ⟨_, j, _, z⟩
  · rw [z]; exact hk s hs
  · rw [z]; show (4 : Nat) < 5; decide
theorem tx_an29 {post : SX → Prop} (hc : tc_CF C B T S) (hb : b < B) (hh : h < C ∨ h = 9999) (hst : st < 9999) (hk : ∀ s, s < S → (m s).1 < 5) (hf : C + 1 ≤ tc_fr S m)
    (H : ∀ u, tc_RX C B T S k (tc_an S b h st m C) L u → match u with | (f_caches, f_blocks, f_tokens, f_slots, hA, oA, cA, bA, sA, qA, pA, hQ, lQ, wA, mj, mt, mb, mw, ms, mc, mo, md) => wX_announce_29 post (nI b) (nI (b * 5 + C)) (nI st) (tc_nz h) 1 (nI C) f_caches f_blocks f_tokens f_slots hA oA cA bA sA qA pA hQ lQ wA mj mt mb mw ms mc mo md) :
    ∀ f d, d + f = C → ∀ u, tc_RX C B T S k (tc_an S b h st m d) L u → match u with | (f_caches, f_blocks, f_tokens, f_slots, hA, oA, cA, bA, sA, qA, pA, hQ, lQ, wA, mj, mt, mb, mw, ms, mc, mo, md) => wX_announce_29 post (nI b) (nI (b * 5 + C)) (nI st) (tc_nz h) (f + 1) (nI d) f_caches f_blocks f_tokens f_slots hA oA cA bA sA qA pA hQ lQ wA mj mt mb mw ms mc mo md
  | 0, d, hd => by
    have : d = C := by omega
    subst this
    exact H
  | f + 1, d, hd => by
    have ih := tx_an29 hc hb hh hst hk hf H f (d + 1) (by omega)
    have hc' := hc
    obtain ⟨c1, c2, b1, b2, t1, t2, s1, s2⟩ := hc
    obtain ⟨g1, g2, g3, g4⟩ := tc_an_ok (S := S) (b := b) (y := h) (st := st) (m := m) d (by omega)
    obtain ⟨f1, f2⟩ := tc_fe_ok (S := S) (m := tc_an S b h st m d) (by omega)
    refine tc_RXi ?_
    intro hA oA cA bA sA qA pA hQ lQ wA mj mt mb mw ms mc mo md hN hQ' hM
    have R : tc_RX C B T S k (tc_an S b h st m d) L (nI C, nI B, nI T, nI S, hA, oA, cA, bA, sA, qA, pA, hQ, lQ, wA, mj, mt, mb, mw, ms, mc, mo, md) := ⟨rfl, rfl, rfl, rfl, hN, hQ', hM⟩
    refine br_f (nI_ge (by omega) (by omega)) (tx_firstEmpty hc' (tc_an5 hk (by omega)) R ?_)
    rw [tc_mIl (by omega)]
    refine tx_putNotice hc' f1 (by omega) (by omega) hst R ?_
    clear hN hQ' hM R
    refine tc_RXi ?_
    intro hA oA cA bA sA qA pA hQ lQ wA mj mt mb mw ms mc mo md hN hQ' hM
    refine nm_r (nI_1 d) ?_
    exact ih (nI C, nI B, nI T, nI S, hA, oA, cA, bA, sA, qA, pA, hQ, lQ, wA, mj, mt, mb, mw, ms, mc, mo, md) ⟨rfl, rfl, rfl, rfl, hN, hQ', hM⟩
theorem tx_announce {post : SX → Prop} {u : SX} (hc : tc_CF C B T S) (hb : b < B) (hL : tc_LO C B L) (hK : K + 1 < 9999) (hW : tc_W0 C B T S K k m) (hf : C + 1 ≤ tc_fr S m) (hR : tc_RX C B T S k m L u)
    (H : ∀ u', tc_RX C B T S (tc_ak C T S b (tc_hd b L) k m) (tc_am C T S b (tc_hd b L) k m) L u' → post u') : wpX_announce post u (nI b) := by
  have hc' := hc
  obtain ⟨c1, c2, b1, b2, t1, t2, s1, s2⟩ := hc
  have ho := tc_hd_ok hL b
  have hk5 := tc_kd5 hW
  have htC := (tc_W_t hW hb (Nat.le_refl C)).2
  have hR' := hR
  refine tc_RXe (P := fun u => tc_RX C B T S k m L u → wpX_announce post u (nI b)) ?_ hR hR'
  intro hA oA cA bA sA qA pA hQ lQ wA mj mt mb mw ms mc mo md hN hQ' hM hR''
  have g5 : sA (b * 5 + C) = nI ((k b).2.2.2.1 C) := ((hN b hb).2 C (Nat.le_refl C)).2.2.2.2
  simp (disch := omega) only [wpX_announce, wpX_cell, tc_c5, tc_vin, tc_cl, g5, true_and, forall_eq, nI_1]
  refine tx_headOf hc' hb hL hR'' ?_
  refine ⟨C + 1, tx_an29 (m := m) (st := (k b).2.2.2.1 C + 1) hc' hb ho (by omega) hk5 hf ?_ C 0 (by omega) _ hR''⟩
  clear hN hQ' hM hR'' g5 hR' hR
  refine tc_RXi ?_
  intro hA oA cA bA sA qA pA hQ lQ wA mj mt mb mw ms mc mo md hN hQ' hM
  have e1 : tc_a1 C S b (tc_hd b L) k m = tc_an S b (tc_hd b L) ((k b).2.2.2.1 C + 1) m C := rfl
  unfold tc_ak tc_am at H
  rw [e1] at H
  obtain ⟨a1, a2, a3, a4⟩ := tc_an_ok (S := S) (b := b) (y := tc_hd b L) (st := (k b).2.2.2.1 C + 1) (m := m) C (by omega)
  have h5 := tc_an5 (b := b) (h := tc_hd b L) (st := (k b).2.2.2.1 C + 1) hk5 (show C ≤ tc_fr S m by omega)
  generalize tc_an S b (tc_hd b L) ((k b).2.2.2.1 C + 1) m C = m1 at hM H a1 a2 a3 a4 h5
  obtain ⟨f1, f2⟩ := tc_fe_ok (S := S) (m := m1) (by omega)
  have f3 : (m (tc_fe S m1)).1 = 0 := by
    rcases a3 (tc_fe S m1) with z | z
    · rw [← z]; exact f2
    · exact z.1
  generalize tc_hd b L = h at ho H ⊢
  generalize hs0 : tc_fe S m1 = s0 at f1 f2 f3 H
  refine br_t (nI_le (by omega) (by omega)) ⟨tc_vin (by omega) (by omega), nm_e ⟨tc_vin (by omega) (by omega), nm_e ?_⟩⟩
  rw [tc_cl (by omega)]
  have hk : k b = ((k b).1, (k b).2.1, (k b).2.2.1, (k b).2.2.2.1, (k b).2.2.2.2) := rfl
  have eN := tx_hearN (d := C) (y := h) (st := (k b).2.2.2.1 C + 1) hc' hb (Nat.le_refl C) hk hN
  have R1 := (show tc_RX C B T S (tc_f1 k b (tc_q1 C h (k b))) m1 L (nI C, nI B, nI T, nI S, hA, oA, cA, upd bA (b * 5 + C) (tc_nz h), upd sA (b * 5 + C) (nI ((k b).2.2.2.1 C + 1)), qA, pA, hQ, lQ, wA, mj, mt, mb, mw, ms, mc, mo, md) from
      ⟨rfl, rfl, rfl, rfl, eN, hQ', fun s hs => tc_XM_k (S := S) (fun _ => tc_keepmv rfl Iff.rfl) (hM s hs)⟩)
  have g1 : hA (b * 5 + C) = nI (tc_ct (k b).1 C T) := ((hN b hb).2 C (Nat.le_refl C)).1
  have hct := tc_ct_le (k b).1 C T
  by_cases h1 : h = 9999
  · rw [if_pos (Or.inl h1), if_pos (Or.inl h1)] at H
    exact br_t (by rw [h1]; exact tc_nzN) (H _ R1)
  · refine br_f (fun z => h1 ((tc_nz_m2 (by omega)).mp z)) ⟨tc_vin (by omega) (by omega), ?_⟩
    rw [g1]
    by_cases h2 : tc_ct (k b).1 C T = 0
    · rw [if_pos (Or.inr h2), if_pos (Or.inr h2)] at H
      exact br_t (by rw [tc_le0 (by omega)]; exact h2) (H _ R1)
    · rw [if_neg (by omega), if_neg (by omega)] at H
      refine br_f (by rw [tc_le0 (by omega)]; exact h2) ?_
      refine tx_firstEmpty hc' h5 R1 ?_
      rw [hs0, tc_mIl (by omega)]
      rw [tc_nzl (by omega)] at R1 ⊢
      refine tx_sendAll hc' f1 hb (Nat.le_refl C) (by omega) ?_ R1 (fun u' h' => ?_)
      · rw [tc_f1s]
        exact tc_slot0 c2 hW hb (fun z => by omega)
      · rw [tc_f1s, tc_ff] at h'
        exact H u' h'
end
end
section
/-! Y: queue, announce -/
def tc_en (b n : Nat) : tc_QL → Nat → Nat
  | [], _ => 9999
  | x :: l, i => if x.1 = b ∧ x.2.1 = n then i else tc_en b n l (i + 1)
section
variable {C B T S K : Nat} {k : Nat → tc_BS} {m : Nat → tc_MG} {L : tc_QL} {s b n d h y st : Nat} {v : Int32}
theorem tc_drop_cons {Q l : tc_QL} {x : Nat × Nat × Int32} {i : Nat} (h : Q.drop i = x :: l) : i < Q.length ∧ Q[i]? = some x ∧ Q.drop (i + 1) = l := by
  refine ⟨Nat.lt_of_not_le fun z => ?_, ?_, ?_⟩
  · rw [List.drop_eq_nil_of_le z] at h
    exact absurd h (by simp)
  · have : (Q.drop i)[0]? = some x := by rw [h]; rfl
    rw [List.getElem?_drop] at this
    exact this
  · rw [← List.tail_drop, h]; rfl
theorem ty_hd2 {post : Int32 → Prop} {pA cA bA sA wA mj mt mb mw ms md qb qc qv : Nat → Int32} (hc : tc_CF C B T S) (hb : b < B) (hL : tc_LO C B L) (hQ : tc_YQ L qb qc qv) : ∀ (l : tc_QL) (i : Nat), i ≤ 16 → L.drop i = l →
    post (tc_nz (tc_hd b l)) → wY_head_2 post (nI b) (nI C) (nI B) (nI T) (nI S) (nI L.length) pA cA bA sA wA mj mt mb mw ms md qb qc qv (l.length + 1) (nI i)
  | [], i, hi, h, hp => by
    obtain ⟨c1, c2, b1, b2, t1, t2, s1, s2⟩ := hc
    have := tc_LO_len c2 b2 hL
    have := List.drop_eq_nil_iff.mp h
    exact br_t (nI_le (by omega) (by omega)) hp
  | x :: l, i, hi, h, hp => by
    have hc' := hc
    obtain ⟨c1, c2, b1, b2, t1, t2, s1, s2⟩ := hc
    have hl := tc_LO_len c2 b2 hL
    obtain ⟨hi', hx, ht⟩ := tc_drop_cons h
    obtain ⟨x1, x2⟩ := hL.1 x (List.mem_of_getElem? hx)
    obtain ⟨q1, q2, q3⟩ := hQ i x hx
    refine br_f (nI_ge (by omega) (by omega)) ⟨tc_vin (by omega) (by omega), ?_⟩
    rw [tc_cl (by omega), q1]
    simp only [tc_hd] at hp
    by_cases e : x.1 = b
    · rw [if_pos e, tc_nzl (by omega)] at hp
      refine br_t (by rw [e]) ⟨tc_vin (by omega) (by omega), ?_⟩
      rw [q2]; exact hp
    · rw [if_neg e] at hp
      exact br_f (fun z => e ((tc_eq (by omega) (by omega)).mp z)) (nm_r (nI_1 i) (ty_hd2 hc' hb hL hQ l (i + 1) (by omega) ht hp))
theorem ty_head {post : Int32 → Prop} {u : SY} (hc : tc_CF C B T S) (hb : b < B) (hL : tc_LO C B L) (hR : tc_RY C B T S k m L u) (H : post (tc_nz (tc_hd b L))) : wpY_head post u (nI b) := by
  refine tc_RYe (P := fun u => wpY_head post u (nI b)) ?_ hR
  intro pA cA bA sA wA mj mt mb mw ms md qb qc qv hN hM hQ
  exact ⟨_, ty_hd2 hc hb hL hQ L 0 (by omega) rfl H⟩
theorem ty_en2 {post : Int32 → Prop} {pA cA bA sA wA mj mt mb mw ms md qb qc qv : Nat → Int32} (hc : tc_CF C B T S) (hb : b < B) (hn : n ≤ C) (hL : tc_LO C B L) (hQ : tc_YQ L qb qc qv) : ∀ (l : tc_QL) (i : Nat), i ≤ 16 → L.drop i = l →
    post (tc_mI (tc_en b n l i)) → wY_entry_2 post (nI n) (nI b) (nI C) (nI B) (nI T) (nI S) (nI L.length) pA cA bA sA wA mj mt mb mw ms md qb qc qv (l.length + 1) (nI i)
  | [], i, hi, h, hp => by
    obtain ⟨c1, c2, b1, b2, t1, t2, s1, s2⟩ := hc
    have := tc_LO_len c2 b2 hL
    have := List.drop_eq_nil_iff.mp h
    exact br_t (nI_le (by omega) (by omega)) hp
  | x :: l, i, hi, h, hp => by
    have hc' := hc
    obtain ⟨c1, c2, b1, b2, t1, t2, s1, s2⟩ := hc
    have hl := tc_LO_len c2 b2 hL
    obtain ⟨hi', hx, ht⟩ := tc_drop_cons h
    obtain ⟨x1, x2⟩ := hL.1 x (List.mem_of_getElem? hx)
    obtain ⟨q1, q2, q3⟩ := hQ i x hx
    refine br_f (nI_ge (by omega) (by omega)) ⟨tc_vin (by omega) (by omega), ?_⟩
    rw [tc_cl (by omega), q1, q2]
    simp only [tc_en] at hp
    by_cases e : x.1 = b
    · refine br_t (by rw [e]) ⟨tc_vin (by omega) (by omega), ?_⟩
      by_cases e2 : x.2.1 = n
      · rw [if_pos ⟨e, e2⟩, tc_mIl (by omega)] at hp
        exact br_t (by rw [e2]) hp
      · rw [if_neg (fun z => e2 z.2)] at hp
        exact br_f (fun z => e2 ((tc_eq (by omega) (by omega)).mp z)) (nm_r (nI_1 i) (ty_en2 hc' hb hn hL hQ l (i + 1) (by omega) ht hp))
    · rw [if_neg (fun z => e z.1)] at hp
      exact br_f (fun z => e ((tc_eq (by omega) (by omega)).mp z)) (nm_r (nI_1 i) (ty_en2 hc' hb hn hL hQ l (i + 1) (by omega) ht hp))
theorem ty_entry {post : Int32 → Prop} {u : SY} (hc : tc_CF C B T S) (hb : b < B) (hn : n ≤ C) (hL : tc_LO C B L) (hR : tc_RY C B T S k m L u) (H : post (tc_mI (tc_en b n L 0))) : wpY_entry post u (nI n) (nI b) := by
  refine tc_RYe (P := fun u => wpY_entry post u (nI n) (nI b)) ?_ hR
  intro pA cA bA sA wA mj mt mb mw ms md qb qc qv hN hM hQ
  exact ⟨_, ty_en2 hc hb hn hL hQ L 0 (by omega) rfl H⟩
theorem ty_an25 {post : SY → Prop} (hc : tc_CF C B T S) (hb : b < B) (hst : st < 9999) (hk : ∀ s, s < S → (m s).1 < 5) (hf : C + 1 ≤ tc_fr S m)
    (H : ∀ u, tc_RY C B T S k (tc_an S b h st m C) L u → match u with | (f_caches, f_blocks, f_tokens, f_slots, f_entries, pA, cA, bA, sA, wA, mj, mt, mb, mw, ms, md, qb, qc, qv) => wY_announce_25 post (nI b) (nI st) (tc_nz h) 1 (nI C) f_caches f_blocks f_tokens f_slots f_entries pA cA bA sA wA mj mt mb mw ms md qb qc qv) :
    ∀ f d, d + f = C → ∀ u, tc_RY C B T S k (tc_an S b h st m d) L u → match u with | (f_caches, f_blocks, f_tokens, f_slots, f_entries, pA, cA, bA, sA, wA, mj, mt, mb, mw, ms, md, qb, qc, qv) => wY_announce_25 post (nI b) (nI st) (tc_nz h) (f + 1) (nI d) f_caches f_blocks f_tokens f_slots f_entries pA cA bA sA wA mj mt mb mw ms md qb qc qv
  | 0, d, hd => by
    have : d = C := by omega
    subst this
    exact H
  | f + 1, d, hd => by
    have ih := ty_an25 hc hb hst hk hf H f (d + 1) (by omega)
    have hc' := hc
    obtain ⟨c1, c2, b1, b2, t1, t2, s1, s2⟩ := hc
    obtain ⟨g1, g2, g3, g4⟩ := tc_an_ok (S := S) (b := b) (y := h) (st := st) (m := m) d (by omega)
    obtain ⟨f1, f2⟩ := tc_fe_ok (S := S) (m := tc_an S b h st m d) (by omega)
    refine tc_RYi ?_
    intro pA cA bA sA wA mj mt mb mw ms md qb qc qv hN hM hQ
    have R : tc_RY C B T S k (tc_an S b h st m d) L (nI C, nI B, nI T, nI S, nI L.length, pA, cA, bA, sA, wA, mj, mt, mb, mw, ms, md, qb, qc, qv) := ⟨rfl, rfl, rfl, rfl, rfl, hN, hM, hQ⟩
    refine br_f (nI_ge (by omega) (by omega)) (ty_lowestEmpty hc' (tc_an5 hk (by omega)) R ?_)
    rw [tc_mIl (by omega)]
    refine ty_put (a := 4) (d := d) (y := h) (st := st) (dat := -2) hc' f1 (fun _ => rfl) (fun _ => rfl) (fun z => absurd z (by decide)) R ?_
    clear hN hM hQ R
    refine tc_RYi ?_
    intro pA cA bA sA wA mj mt mb mw ms md qb qc qv hN hM hQ
    refine nm_r (nI_1 d) ?_
    exact ih (nI C, nI B, nI T, nI S, nI L.length, pA, cA, bA, sA, wA, mj, mt, mb, mw, ms, md, qb, qc, qv) ⟨rfl, rfl, rfl, rfl, rfl, hN, hM, hQ⟩
theorem ty_hearN {pA cA bA sA wA : Nat → Int32} (hB : B ≤ 4) (hb : b < B) (hN : tc_YN C B T k pA cA bA sA wA) :
    tc_YN C B T (tc_f1 k b ((k b).1, (k b).2.1, tc_f1 (k b).2.2.1 d y, tc_f1 (k b).2.2.2.1 d st, (k b).2.2.2.2)) pA cA (upd bA (d * 4 + b) (tc_nz y)) (upd sA (d * 4 + b) (nI st)) wA := by
  have gg := hN b hb
  refine tc_YN_b hN gg.1 gg.2.1 (fun n' hn' => ?_) (fun b' hb' e' => ⟨rfl, fun _ _ => rfl, fun n' hn' => ⟨rfl, tc_vx e' (by omega) (by omega), tc_vx e' (by omega) (by omega)⟩⟩)
  have g' := gg.2.2 n' hn'
  refine ⟨g'.1, ?_, ?_⟩
  · show _ = tc_nz (tc_f1 (k b).2.2.1 d y n')
    rw [tc_vi]
    by_cases e' : n' = d
    · rw [if_pos e', e', tc_f1s]
    · rw [if_neg e', tc_f1n e']; exact g'.2.1
  · show _ = nI (tc_f1 (k b).2.2.2.1 d st n')
    rw [tc_vi]
    by_cases e' : n' = d
    · rw [if_pos e', e', tc_f1s]
    · rw [if_neg e', tc_f1n e']; exact g'.2.2
theorem ty_announce {post : SY → Prop} {u : SY} (hc : tc_CF C B T S) (hb : b < B) (hL : tc_LO C B L) (hK : K + 1 < 9999) (hW : tc_W0 C B T S K k m) (hf : C + 1 ≤ tc_fr S m) (hR : tc_RY C B T S k m L u)
    (H : ∀ u', tc_RY C B T S (tc_ak C T S b (tc_hd b L) k m) (tc_am C T S b (tc_hd b L) k m) L u' → post u') : wpY_announce post u (nI b) := by
  have hc' := hc
  obtain ⟨c1, c2, b1, b2, t1, t2, s1, s2⟩ := hc
  have ho := tc_hd_ok hL b
  have hk5 := tc_kd5 hW
  have hp := tc_W_p hc' hW hb
  have htC := (tc_W_t hW hb (Nat.le_refl C)).2
  have hR' := hR
  refine tc_RYe (P := fun u => tc_RY C B T S k m L u → wpY_announce post u (nI b)) ?_ hR hR'
  intro pA cA bA sA wA mj mt mb mw ms md qb qc qv hN hM hQ hR''
  have g5 : sA (C * 4 + b) = nI ((k b).2.2.2.1 C) := ((hN b hb).2.2 C (Nat.le_refl C)).2.2
  simp (disch := omega) only [wpY_announce, tc_c4, tc_vin, tc_cl, g5, true_and, forall_eq, nI_1]
  refine ty_head hc' hb hL hR'' ?_
  refine ⟨C + 1, ty_an25 (m := m) (st := (k b).2.2.2.1 C + 1) hc' hb (by omega) hk5 hf ?_ C 0 (by omega) _ hR''⟩
  clear hN hM hQ hR'' g5 hR' hR
  refine tc_RYi ?_
  intro pA cA bA sA wA mj mt mb mw ms md qb qc qv hN hM hQ
  have e1 : tc_a1 C S b (tc_hd b L) k m = tc_an S b (tc_hd b L) ((k b).2.2.2.1 C + 1) m C := rfl
  unfold tc_ak tc_am at H
  rw [e1] at H
  obtain ⟨a1, a2, a3, a4⟩ := tc_an_ok (S := S) (b := b) (y := tc_hd b L) (st := (k b).2.2.2.1 C + 1) (m := m) C (by omega)
  have h5 := tc_an5 (b := b) (h := tc_hd b L) (st := (k b).2.2.2.1 C + 1) hk5 (show C ≤ tc_fr S m by omega)
  generalize tc_an S b (tc_hd b L) ((k b).2.2.2.1 C + 1) m C = m1 at hM H a1 a2 a3 a4 h5
  obtain ⟨f1, f2⟩ := tc_fe_ok (S := S) (m := m1) (by omega)
  generalize tc_hd b L = h at ho H ⊢
  generalize hs0 : tc_fe S m1 = s0 at f1 f2 H
  refine br_t (nI_le (by omega) (by omega)) ?_
  rw [tc_c4]
  refine ⟨tc_vin (by omega) (by omega), nm_e ⟨tc_vin (by omega) (by omega), nm_e ?_⟩⟩
  rw [tc_cl (by omega)]
  have R1 := (show tc_RY C B T S (tc_f1 k b (tc_q1 C h (k b))) m1 L (nI C, nI B, nI T, nI S, nI L.length, pA, cA, upd bA (C * 4 + b) (tc_nz h), upd sA (C * 4 + b) (nI ((k b).2.2.2.1 C + 1)), wA, mj, mt, mb, mw, ms, md, qb, qc, qv) from
      ⟨rfl, rfl, rfl, rfl, rfl, ty_hearN b2 hb hN, hM, hQ⟩)
  have hct := tc_ct_le (k b).1 C T
  refine ty_lowestEmpty hc' h5 R1 ?_
  by_cases h1 : h = 9999
  · rw [if_pos (Or.inl h1), if_pos (Or.inl h1)] at H
    exact br_t (by rw [h1]; exact tc_nzN) (H _ R1)
  · refine br_f (fun z => h1 ((tc_nz_m2 (by omega)).mp z)) (ty_tokensAt hc' hb (by omega) (by rw [tc_f1s]; exact hp) R1 ?_)
    rw [tc_f1s]
    by_cases h2 : tc_ct (k b).1 C T = 0
    · rw [if_pos (Or.inr h2), if_pos (Or.inr h2)] at H
      exact br_t ((tc_le0 (a := tc_ct (k b).1 C T) (by omega)).mpr h2) (H _ R1)
    · rw [if_neg (by omega), if_neg (by omega)] at H
      refine br_f (fun z => h2 ((tc_le0 (a := tc_ct (k b).1 C T) (by omega)).mp z)) ?_
      rw [hs0, tc_mIl (by omega)]
      rw [tc_nzl (by omega)] at R1 ⊢
      refine ty_sendAll hc' f1 hb (Nat.le_refl C) (by rw [tc_f1s]; exact hp) R1 (fun u' h' => ?_)
      rw [tc_f1s, tc_ff] at h'
      exact H u' h'
end
end
section
/-! the relation, the arguments' checks, the plain readers -/
def tc_IV (C B T S K : Nat) (k : Nat → tc_BS) (m : Nat → tc_MG) (L : tc_QL) : Prop :=
  tc_CF C B T S ∧ tc_W0 C B T S K k m ∧ tc_LO C B L ∧ ∀ b, b < B → tc_PB C T S m (tc_hd b L) b (k b)
/-- the relation at the head of a turn whose first cell is k -/
def i_Rel (k : Nat) (u : SX) (v : SY) : Prop := ∃ (C B T S : Nat) (q : Nat → tc_BS) (m : Nat → tc_MG) (L : tc_QL), tc_IV C B T S k q m L ∧ tc_RX C B T S q m L u ∧ tc_RY C B T S q m L v
theorem i_up {k : Nat} {u : SX} {v : SY} (h : i_Rel k u v) : i_Rel (k + 4) u v := by
  obtain ⟨C, B, T, S, q, m, L, ⟨h1, h2, h3, h4⟩, h5, h6⟩ := h
  exact ⟨C, B, T, S, q, m, L, ⟨h1, tc_W0_K (by omega) h2, h3, h4⟩, h5, h6⟩
section
variable {C B T S K : Nat} {k : Nat → tc_BS} {m : Nat → tc_MG} {L : tc_QL} {s b n d h y st : Nat} {u : SX} {v : SY}
theorem tc_arg (hc : tc_CF C B T S) (hX : tc_RX C B T S k m L u) (hY : tc_RY C B T S k m L v) (p0 p1 : Int32) :
    ((∀ post : Int32 → Prop, post 0 → wpX_isCacheAndBlock post u p0 p1) ∧ (∀ post : Int32 → Prop, post 1 → wpY_outside post v p0 p1)) ∨
    ∃ n b, n < C ∧ b < B ∧ p0 = nI n ∧ p1 = nI b ∧ (∀ post : Int32 → Prop, post 1 → wpX_isCacheAndBlock post u p0 p1) ∧ (∀ post : Int32 → Prop, post 0 → wpY_outside post v p0 p1) := by
  obtain ⟨c1, c2, b1, b2, t1, t2, s1, s2⟩ := hc
  refine tc_RXe (P := fun u => ((∀ post : Int32 → Prop, post 0 → wpX_isCacheAndBlock post u p0 p1) ∧ (∀ post : Int32 → Prop, post 1 → wpY_outside post v p0 p1)) ∨
    ∃ n b, n < C ∧ b < B ∧ p0 = nI n ∧ p1 = nI b ∧ (∀ post : Int32 → Prop, post 1 → wpX_isCacheAndBlock post u p0 p1) ∧ (∀ post : Int32 → Prop, post 0 → wpY_outside post v p0 p1)) ?_ hX
  intro hA oA cA bA sA qA pA hQ lQ wA mj mt mb mw ms mc mo md _ _ _
  refine tc_RYe (P := fun v => ((∀ post : Int32 → Prop, post 0 → wpX_isCacheAndBlock post (nI C, nI B, nI T, nI S, hA, oA, cA, bA, sA, qA, pA, hQ, lQ, wA, mj, mt, mb, mw, ms, mc, mo, md) p0 p1) ∧ (∀ post : Int32 → Prop, post 1 → wpY_outside post v p0 p1)) ∨
    ∃ n b, n < C ∧ b < B ∧ p0 = nI n ∧ p1 = nI b ∧ (∀ post : Int32 → Prop, post 1 → wpX_isCacheAndBlock post (nI C, nI B, nI T, nI S, hA, oA, cA, bA, sA, qA, pA, hQ, lQ, wA, mj, mt, mb, mw, ms, mc, mo, md) p0 p1) ∧ (∀ post : Int32 → Prop, post 0 → wpY_outside post v p0 p1)) ?_ hY
  intro zp zc zb zs zw zk zt zm zo za zd zq zr zv _ _ _
  by_cases h0 : p0 < 0
  · exact Or.inl ⟨fun _ hp => br_t h0 hp, fun _ hp => br_t h0 hp⟩
  obtain ⟨n, hn, rfl⟩ := nI_of h0
  by_cases h1 : C ≤ n
  · have z : nI C ≤ nI n := nI_le h1 hn
    exact Or.inl ⟨fun _ hp => br_f h0 (br_t z hp), fun _ hp => br_f h0 (br_t z hp)⟩
  have z1 : ¬ nI C ≤ nI n := nI_ge (by omega) (by omega)
  by_cases h2 : p1 < 0
  · exact Or.inl ⟨fun _ hp => br_f h0 (br_f z1 (br_t h2 (br_t rfl hp))), fun _ hp => br_f h0 (br_f z1 (br_t h2 hp))⟩
  obtain ⟨b, hb, rfl⟩ := nI_of h2
  by_cases h3 : b < B
  · have z2 : ¬ nI B ≤ nI b := nI_ge h3 (by omega)
    have z3 : nI b < nI B := nI_lt h3 (by omega)
    exact Or.inr ⟨n, b, by omega, h3, rfl, rfl, fun _ hp => br_f h0 (br_f z1 (br_f h2 (br_f z2 (br_f (by decide) hp)))), fun _ hp => br_f h0 (br_f z1 (br_f h2 (br_t z3 hp)))⟩
  · have z2 : nI B ≤ nI b := nI_le (by omega) hb
    have z3 : ¬ nI b < nI B := nI_nlt (by omega) (by omega)
    exact Or.inl ⟨fun _ hp => br_f h0 (br_f z1 (br_f h2 (br_t z2 (br_t rfl hp)))), fun _ hp => br_f h0 (br_f z1 (br_f h2 (br_f z3 hp)))⟩
theorem tc_blk (hc : tc_CF C B T S) (p : Int32) : (p < 0 ∨ nI B ≤ p) ∨ ∃ b, b < B ∧ p = nI b := by
  obtain ⟨c1, c2, b1, b2, t1, t2, s1, s2⟩ := hc
  rcases pk_ix p (n := B) (by omega) with h | h | h
  · exact Or.inl (Or.inl h)
  · exact Or.inl (Or.inr h)
  · exact Or.inr h
theorem tx_isB0 {post : Int32 → Prop} {p : Int32} (hp : p < 0 ∨ nI B ≤ p) (hX : tc_RX C B T S k m L u) (H : post 0) : wpX_isBlock post u p := by
  refine tc_RXe (P := fun u => wpX_isBlock post u p) ?_ hX
  intro hA oA cA bA sA qA pA hQ lQ wA mj mt mb mw ms mc mo md _ _ _
  by_cases h : p < 0
  · exact br_t h H
  · exact br_f h (br_t (by rcases hp with z | z; exact absurd z h; exact z) H)
theorem tx_isB1 {post : Int32 → Prop} (hc : tc_CF C B T S) (hb : b < B) (hX : tc_RX C B T S k m L u) (H : post 1) : wpX_isBlock post u (nI b) := by
  obtain ⟨c1, c2, b1, b2, t1, t2, s1, s2⟩ := hc
  refine tc_RXe (P := fun u => wpX_isBlock post u (nI b)) ?_ hX
  intro hA oA cA bA sA qA pA hQ lQ wA mj mt mb mw ms mc mo md _ _ _
  exact br_f (nI_pos (by omega)) (br_f (nI_ge hb (by omega)) H)
end
theorem i_vc_load {k : Nat} {u : SX} {v : SY} (I : i_Rel k u v) (hk : k + 4 ≤ 2052) (v1 : Int32) (v2 : Int32) : wpX_load (fun r => wpY_load (fun r' => r' = r ∧ i_Rel (k + 4) u v) v v1 v2) u v1 v2 := by
  have J := i_up I
  obtain ⟨C, B, T, S, q, m, L, ⟨h1, h2, h3, h4⟩, hX, hY⟩ := I
  have A := tc_arg h1 hX hY v1 v2
  rcases u with ⟨fc, fb, ft, fs, hA, oA, cA, bA, sA, qA, pA, hQ, lQ, wA, mj, mt, mb, mw, ms, mc, mo, md⟩
  rcases v with ⟨gc, gb, gt, gs, ge, zp, zc, zb, zs, zw, zk, zt, zm, zo, za, zd, zq, zr, zv⟩
  have h1' := h1
  obtain ⟨c1, c2, b1, b2, t1, t2, s1, s2⟩ := h1'
  rcases A with ⟨a1, a2⟩ | ⟨n, b, hn, hb, rfl, rfl, a1, a2⟩
  · unfold wpX_load wpY_load
    dsimp only
    refine a1 _ ?_
    refine br_t rfl ?_
    refine a2 _ ?_
    exact br_f (by decide) ⟨rfl, J⟩
  · obtain ⟨_, _, _, _, hN, _, _⟩ := hX
    obtain ⟨_, _, _, _, _, hN', _, _⟩ := hY
    unfold wpX_load wpY_load
    dsimp only
    refine a1 _ ?_
    refine br_f (by decide) ?_
    simp (disch := omega) only [wpX_cell, tc_c5, tc_vin, tc_cl, true_and]
    refine a2 _ ?_
    refine br_t rfl ?_
    simp (disch := omega) only [tc_c4, tc_vin, tc_cl, true_and]
    refine ⟨?_, J⟩
    rw [((hN b hb).2 n (by omega)).2.2.1, ((hN' b hb).2.2 n (by omega)).1]
theorem i_vc_latest {k : Nat} {u : SX} {v : SY} (I : i_Rel k u v) (hk : k + 4 ≤ 2052) (v1 : Int32) : wpX_latest (fun r => wpY_latest (fun r' => r' = r ∧ i_Rel (k + 4) u v) v v1) u v1 := by
  have J := i_up I
  obtain ⟨C, B, T, S, q, m, L, ⟨h1, h2, h3, h4⟩, hX, hY⟩ := I
  rcases u with ⟨fc, fb, ft, fs, hA, oA, cA, bA, sA, qA, pA, hQ, lQ, wA, mj, mt, mb, mw, ms, mc, mo, md⟩
  rcases v with ⟨gc, gb, gt, gs, ge, zp, zc, zb, zs, zw, zk, zt, zm, zo, za, zd, zq, zr, zv⟩
  have h1' := h1
  obtain ⟨c1, c2, b1, b2, t1, t2, s1, s2⟩ := h1'
  have hX' := hX
  obtain ⟨_, _, _, _, hN, _, _⟩ := hX'
  obtain ⟨_, rfl, _, _, _, hN', _, _⟩ := hY
  rcases tc_blk h1 v1 with h | ⟨b, hb, rfl⟩
  · unfold wpX_latest wpY_latest
    dsimp only
    refine tx_isB0 h hX ?_
    refine br_t rfl ?_
    by_cases z : v1 < 0
    · exact br_t z ⟨rfl, J⟩
    · refine br_f z (br_f ?_ ⟨rfl, J⟩)
      rcases h with h | h
      · exact absurd h z
      · exact Int32.not_lt.mpr h
  · unfold wpX_latest wpY_latest
    dsimp only
    refine tx_isB1 h1 hb hX ?_
    refine br_f (by decide) ⟨tc_vin (by omega) (by omega), ?_⟩
    refine br_f (nI_pos (by omega)) (br_t (nI_lt hb (by omega)) ⟨tc_vin (by omega) (by omega), ?_, J⟩)
    rw [tc_cl (by omega), (hN b hb).1, (hN' b hb).1]
theorem i_vc_free {k : Nat} {u : SX} {v : SY} (I : i_Rel k u v) (hk : k + 4 ≤ 2052) : wpX_free (fun r => wpY_free (fun r' => r' = r ∧ i_Rel (k + 4) u v) v) u := by
  have J := i_up I
  obtain ⟨C, B, T, S, q, m, L, ⟨h1, h2, h3, h4⟩, hX, hY⟩ := I
  exact tx_free h1 (tc_kd5 h2) hX (ty_free h1 (tc_kd5 h2) hY ⟨rfl, J⟩)
end
section
/-! store, evict, drop, deliver -/
section
variable {C B T S K : Nat} {k : Nat → tc_BS} {m : Nat → tc_MG} {L : tc_QL} {s b n d h y st x : Nat} {w : Int32}
theorem tx_hasRightW {post : Int32 → Prop} {u : SX} (hc : tc_CF C B T S) (hb : b < B) (hn : n ≤ C) (hX : tc_RX C B T S k m L u) (H : post (if tc_ct (k b).1 n T = T then 1 else 0)) : wpX_hasRight post u (nI n) (nI b) 1 := by
  obtain ⟨c1, c2, b1, b2, t1, t2, s1, s2⟩ := hc
  refine tc_RXe (P := fun u => wpX_hasRight post u (nI n) (nI b) 1) ?_ hX
  intro hA oA cA bA sA qA pA hQ lQ wA mj mt mb mw ms mc mo md hN _ _
  have g1 := ((hN b hb).2 n hn).1
  have hct := tc_ct_le (k b).1 n T
  simp (disch := omega) only [wpX_hasRight, wpX_cell, tc_c5, tc_vin, tc_cl, true_and, g1, tc_eq]
  refine br_f (by decide) ?_
  by_cases z : tc_ct (k b).1 n T = T
  · rw [if_pos z] at H; exact br_t z H
  · rw [if_neg z] at H; exact br_f z H
theorem tx_hasRightR {post : Int32 → Prop} {u : SX} (hc : tc_CF C B T S) (hb : b < B) (hn : n ≤ C) (hX : tc_RX C B T S k m L u) (H : post (if (k b).2.1 n = -2 then 0 else 1)) : wpX_hasRight post u (nI n) (nI b) 0 := by
  obtain ⟨c1, c2, b1, b2, t1, t2, s1, s2⟩ := hc
  refine tc_RXe (P := fun u => wpX_hasRight post u (nI n) (nI b) 0) ?_ hX
  intro hA oA cA bA sA qA pA hQ lQ wA mj mt mb mw ms mc mo md hN _ _
  have g1 := ((hN b hb).2 n hn).2.2.1
  simp (disch := omega) only [wpX_hasRight, wpX_cell, tc_c5, tc_vin, tc_cl, true_and, g1]
  refine br_t trivial ?_
  by_cases z : (k b).2.1 n = -2
  · rw [if_pos z] at H; exact br_t z H
  · rw [if_neg z] at H; exact br_f z H
theorem tc_PB_cg {q q' : tc_BS} (h1 : q'.1 = q.1) (h2 : q'.2.2.1 = q.2.2.1) (h3 : q'.2.2.2.1 = q.2.2.2.1) (hP : tc_PB C T S m h b q) : tc_PB C T S m h b q' := by
  rcases q with ⟨p, c, e, t, w⟩
  rcases q' with ⟨p', c', e', t', w'⟩
  simp only at h1 h2 h3
  subst h1 h2 h3
  exact hP
theorem tc_wr_W (h0 : 0 < tc_ct (k b).1 n T) (hW : tc_W0 C B T S K k m) :
    tc_W0 C B T S K (tc_f1 k b ((k b).1, tc_f1 (k b).2.1 n w, (k b).2.2.1, (k b).2.2.2.1, w)) m ∧ ∀ b' h', tc_PB C T S m h' b' (k b') → tc_PB C T S m h' b' (tc_f1 k b ((k b).1, tc_f1 (k b).2.1 n w, (k b).2.2.1, (k b).2.2.2.1, w) b') := by
  refine ⟨⟨fun b' hb' => ?_, fun s hs => ?_⟩, fun b' h' hP => ?_⟩
  · by_cases e : b' = b
    · subst e
      rw [tc_f1s]
      have := hW.1 b' hb'
      revert this h0
      rcases k b' with ⟨p, c, e, t, w⟩
      intro h0 g
      refine ⟨g.1, g.2.1, g.2.2.1, fun n' hn' z => ?_⟩
      by_cases e' : n' = n
      · rw [e'] at z; simp only at h0 z; omega
      · show tc_f1 c n _ n' = -2
        rw [tc_f1n e']; exact g.2.2.2 n' hn' z
    · rw [tc_f1n e]; exact hW.1 b' hb'
  · have := hW.2 s hs
    revert this
    rcases m s with ⟨a, d, bb, y, st, v⟩
    intro g
    rcases g with g | ⟨g1, g2, g⟩
    · exact Or.inl g
    · refine Or.inr ⟨g1, g2, ?_⟩
      by_cases e : bb = b
      · subst e; rw [tc_f1s]; exact g
      · rw [tc_f1n e]; exact g
  · by_cases e : b' = b
    · subst e; rw [tc_f1s]; exact tc_PB_cg rfl rfl rfl hP
    · rw [tc_f1n e]; exact hP
theorem tc_send_W (hC : C ≤ 4) (hs : s < S) (hb : b < B) (hn : n ≤ C) (hx : x ≤ C) (h0 : (m s).1 = 0) (hct : 0 < tc_ct (k b).1 n T) (hW : tc_W0 C B T S K k m) :
    tc_W0 C B T S K (tc_f1 k b (tc_sB s n x b (k b)).1) (tc_f1 m s (tc_sB s n x b (k b)).2) ∧ ∀ b' h', tc_PB C T S m h' b' (k b') → tc_PB C T S (tc_f1 m s (tc_sB s n x b (k b)).2) h' b' (tc_f1 k b (tc_sB s n x b (k b)).1 b') := by
  have hWb := hW.1 b hb
  rcases hk : k b with ⟨p, c, e, t, w⟩
  rw [hk] at hWb hct
  obtain ⟨gp, gt, ge, gc⟩ := hWb
  simp only at hct
  refine ⟨tc_locW hW (fun z => by omega) ⟨tc_Wp_send gp hs (by omega) rfl rfl, gt, ge, tc_Wc_send hC gc⟩ (Or.inr ⟨hb, hx, Or.inr (Or.inl ⟨rfl, rfl, rfl, ?_⟩)⟩) (fun s' _ hne _ _ => ?_) ?_, fun b' h' hP => ?_⟩
  · show 0 < tc_ct (tc_f1 k b (tc_sB s n x b (p, c, e, t, w)).1 b).1 (8 + s) T
    rw [tc_f1s]
    show 0 < tc_ct (tc_mv p n (8 + s)) (8 + s) T
    rw [tc_ct_mvt (by omega)]; omega
  · rw [hk]; exact tc_ct_mvn (by omega) (by omega) T
  · rw [hk]; exact Nat.le_refl _
  · by_cases e' : b' = b
    · subst e'
      rw [tc_f1s]
      rw [hk] at hP
      refine ⟨tc_P1_keep hP.1 (show (3 : Nat) ≠ 4 by decide), tc_P2_mono hP.2.1 (fun n' hn' z => ?_), tc_P3_keep hP.2.2 (by omega)⟩
      by_cases hnd : n' = n
      · rw [hnd]; exact tc_ct_mvf (by omega) T
      · exact (tc_ct_mvn hnd (by omega) T).trans z
    · rw [tc_f1n e']
      exact tc_PB_other e' (fun z => by omega) (fun z => absurd z (show ¬ (3 : Nat) = 4 by decide)) hP
theorem tc_put_W {y : tc_MG} (h3 : (m s).1 ≠ 3) (h4 : (m s).1 ≠ 4) (hy : y.1 ≠ 4) (hm : tc_WM C B T k s y) (hW : tc_W0 C B T S K k m) :
    tc_W0 C B T S K k (tc_f1 m s y) ∧ ∀ b' h' q, tc_PB C T S m h' b' q → tc_PB C T S (tc_f1 m s y) h' b' q := by
  refine ⟨⟨fun b' hb' => ?_, fun s' hs' => ?_⟩, fun b' h' q hP => ?_⟩
  · have := hW.1 b' hb'
    revert this
    rcases k b' with ⟨p, c, e, t, w⟩
    intro g
    exact ⟨tc_Wp_keep g.1 h3, g.2⟩
  · by_cases e : s' = s
    · rw [e, tc_f1s]; exact hm
    · rw [tc_f1n e]; exact hW.2 s' hs'
  · rcases q with ⟨p, c, e, t, w⟩
    exact ⟨tc_P1_keep hP.1 hy, hP.2.1, tc_P3_keep hP.2.2 h4⟩
end
theorem i_vc_store {k : Nat} {u : SX} {v : SY} (I : i_Rel k u v) (hk : k + 4 ≤ 2052) (v1 : Int32) (v2 : Int32) (v3 : Int32) : wpX_store (fun r u' => wpY_store (fun r' v' => r' = r ∧ i_Rel (k + 4) u' v') v v1 v2 v3) u v1 v2 v3 := by
  have J := i_up I
  obtain ⟨C, B, T, S, q, m, L, ⟨h1, h2, h3, h4⟩, hX, hY⟩ := I
  have A := tc_arg h1 hX hY v1 v2
  rcases u with ⟨fc, fb, ft, fs, hA, oA, cA, bA, sA, qA, pA, hQ, lQ, wA, mj, mt, mb, mw, ms, mc, mo, md⟩
  rcases v with ⟨gc, gb, gt, gs, ge, zp, zc, zb, zs, zw, zk, zt, zm, zo, za, zd, zq, zr, zv⟩
  have h1' := h1
  obtain ⟨c1, c2, b1, b2, t1, t2, s1, s2⟩ := h1'
  unfold wpX_store wpY_store
  dsimp only
  rcases A with ⟨a1, a2⟩ | ⟨n, b, hn, hb, rfl, rfl, a1, a2⟩
  · refine a1 _ ?_
    refine br_t rfl ?_
    refine a2 _ ?_
    exact br_f (by decide) ⟨rfl, J⟩
  · have hX' := hX
    have hY' := hY
    obtain ⟨rfl, rfl, rfl, rfl, hN, hQ', hM⟩ := hX'
    obtain ⟨rfl, rfl, rfl, rfl, rfl, hN', hM', hQ''⟩ := hY'
    refine a1 _ ?_
    refine br_f (by decide) ?_
    have g1 := ((hN b hb).2 n (by omega)).1
    have hp := tc_W_p h1 h2 hb
    have hct := tc_ct_le (q b).1 n T
    refine tx_hasRightW h1 hb (by omega) hX ?_
    by_cases z : tc_ct (q b).1 n T = T
    · rw [if_pos z]
      refine br_f (by decide) ?_
      refine tx_write h1 hb (by omega) hX (fun u' h' => ?_)
      refine a2 _ ?_
      refine br_t rfl ?_
      refine ty_tokensAt h1 hb (by omega) hp hY ?_
      refine br_t (by rw [z]) ?_
      simp (disch := omega) only [tc_c4, tc_vin, tc_cl, true_and, forall_eq]
      have W := tc_wr_W (n := n) (w := v3 &&& 65535) (show 0 < tc_ct (q b).1 n T by omega) h2
      refine ⟨C, B, T, S, _, m, L, ⟨h1, tc_W0_K (by omega) W.1, h3, fun b' hb' => W.2 b' _ (h4 b' hb')⟩, h', ⟨rfl, rfl, rfl, rfl, rfl, ?_, hM', hQ''⟩⟩
      refine tc_YN_b hN' (pk_us (k := b)) (hN' b hb).2.1 (fun n' hn' => ?_) (fun b' hb' e' => ⟨pk_un e', fun _ _ => rfl, fun n' hn' => ⟨tc_vx e' (by omega) (by omega), rfl, rfl⟩⟩)
      have g := (hN' b hb).2.2 n' hn'
      refine ⟨?_, g.2.1, g.2.2⟩
      show _ = tc_f1 (q b).2.1 n _ n'
      rw [tc_vi]
      by_cases e' : n' = n
      · rw [if_pos e', e', tc_f1s]
      · rw [if_neg e', tc_f1n e']; exact g.1
    · rw [if_neg z]
      refine br_t rfl ?_
      refine a2 _ ?_
      refine br_t rfl ?_
      refine ty_tokensAt h1 hb (by omega) hp hY ?_
      exact br_f (fun e => z ((tc_eq (by omega) (by omega)).mp e)) ⟨rfl, J⟩
theorem i_vc_evict {k : Nat} {u : SX} {v : SY} (I : i_Rel k u v) (hk : k + 4 ≤ 2052) (v1 : Int32) (v2 : Int32) : wpX_evict (fun r u' => wpY_evict (fun r' v' => r' = r ∧ i_Rel (k + 4) u' v') v v1 v2) u v1 v2 := by
  have J := i_up I
  obtain ⟨C, B, T, S, q, m, L, ⟨h1, h2, h3, h4⟩, hX, hY⟩ := I
  have A := tc_arg h1 hX hY v1 v2
  rcases u with ⟨fc, fb, ft, fs, hA, oA, cA, bA, sA, qA, pA, hQ, lQ, wA, mj, mt, mb, mw, ms, mc, mo, md⟩
  rcases v with ⟨gc, gb, gt, gs, ge, zp, zc, zb, zs, zw, zk, zt, zm, zo, za, zd, zq, zr, zv⟩
  have h1' := h1
  obtain ⟨c1, c2, b1, b2, t1, t2, s1, s2⟩ := h1'
  unfold wpX_evict wpY_evict
  dsimp only
  rcases A with ⟨a1, a2⟩ | ⟨n, b, hn, hb, rfl, rfl, a1, a2⟩
  · refine a1 _ ?_
    refine br_t rfl ?_
    refine a2 _ ?_
    exact br_f (by decide) ⟨rfl, J⟩
  · have hX' := hX
    have hY' := hY
    obtain ⟨rfl, rfl, rfl, rfl, hN, hQ', hM⟩ := hX'
    obtain ⟨rfl, rfl, rfl, rfl, rfl, hN', hM', hQ''⟩ := hY'
    refine a1 _ ?_
    refine br_f (by decide) ?_
    have g1 := ((hN b hb).2 n (by omega)).1
    have hp := tc_W_p h1 h2 hb
    have hct := tc_ct_le (q b).1 n T
    simp (disch := omega) only [wpX_cell, tc_c5, tc_vin, tc_cl, true_and, g1, tc_eq0]
    by_cases z : tc_ct (q b).1 n T = 0
    · refine br_t z ?_
      refine a2 _ ?_
      refine br_t rfl ?_
      refine ty_tokensAt h1 hb (by omega) hp hY ?_
      exact br_t ((tc_eq0 (by omega)).mpr z) J
    · refine br_f z ?_
      refine tx_firstEmpty h1 (tc_kd5 h2) hX ?_
      by_cases f0 : tc_fr S m = 0
      · rw [tc_fe_no f0, tc_mIN]
        refine br_f (by decide) ?_
        refine a2 _ ?_
        refine br_t rfl ?_
        refine ty_tokensAt h1 hb (by omega) hp hY ?_
        refine br_f (fun e => z ((tc_eq0 (by omega)).mp e)) ?_
        refine ty_lowestEmpty h1 (tc_kd5 h2) hY ?_
        rw [tc_fe_no f0, tc_mIN]
        exact br_f (by decide) J
      · obtain ⟨f1, f2⟩ := tc_fe_ok (S := S) (m := m) (by omega)
        rw [tc_mIl (by omega)]
        refine br_t (nI_pos' (by omega)) ?_
        refine tx_sendAll h1 f1 hb (by omega) (by omega) (tc_slot0 c2 h2 hb (fun e => by omega)) hX (fun u' h' => ?_)
        refine a2 _ ?_
        refine br_t rfl ?_
        refine ty_tokensAt h1 hb (by omega) hp hY ?_
        refine br_f (fun e => z ((tc_eq0 (by omega)).mp e)) ?_
        refine ty_lowestEmpty h1 (tc_kd5 h2) hY ?_
        rw [tc_mIl (by omega)]
        refine br_t (nI_pos' (by omega)) ?_
        refine ty_sendAll h1 f1 hb (by omega) hp hY (fun v' h'' => ?_)
        have W := tc_send_W (x := C) c2 f1 hb (show n ≤ C by omega) (Nat.le_refl C) f2 (show 0 < tc_ct (q b).1 n T by omega) h2
        exact ⟨C, B, T, S, _, _, L, ⟨h1, tc_W0_K (by omega) W.1, h3, fun b' hb' => W.2 b' _ (h4 b' hb')⟩, h', h''⟩
end
section
/-! drop, deliver, sweep -/
def tc_sw (T : Nat) (k : Nat → tc_BS) (m : Nat → tc_MG) : Nat → (Nat → tc_BS) × (Nat → tc_MG)
  | 0 => (k, m)
  | j + 1 => if ((tc_sw T k m j).2 j).1 = 0 then tc_sw T k m j else (tc_dk T j (tc_sw T k m j).1 (tc_sw T k m j).2, tc_dm T j (tc_sw T k m j).1 (tc_sw T k m j).2)
def tc_sn (T : Nat) (k : Nat → tc_BS) (m : Nat → tc_MG) : Nat → Nat
  | 0 => 0
  | j + 1 => if ((tc_sw T k m j).2 j).1 = 0 then tc_sn T k m j else tc_sn T k m j + 1
section
variable {C B T S K : Nat} {k : Nat → tc_BS} {m : Nat → tc_MG} {L : tc_QL} {s b n d h y st x : Nat} {w : Int32}
theorem tc_sw_W (hc : tc_CF C B T S) (hW : tc_W0 C B T S K k m) : ∀ j, j ≤ S → tc_W0 C B T S K (tc_sw T k m j).1 (tc_sw T k m j).2 ∧ ∀ b h, b < B → tc_PB C T S m h b (k b) → tc_PB C T S (tc_sw T k m j).2 h b ((tc_sw T k m j).1 b)
  | 0, _ => ⟨hW, fun _ _ _ hP => hP⟩
  | j + 1, hj => by
    have ih := tc_sw_W hc hW j (by omega)
    simp only [tc_sw]
    by_cases e : ((tc_sw T k m j).2 j).1 = 0
    · rw [if_pos e]; exact ih
    · rw [if_neg e]
      obtain ⟨c1, c2, b1, b2, t1, t2, s1, s2⟩ := hc
      have := tc_dB_W c2 (by omega) (by omega) ih.1 (s := j) (fun z => e (by rw [z]; rfl))
      exact ⟨this.1, fun b h hb hP => this.2 b h hb (ih.2 b h hb hP)⟩
theorem tx_sw4 {post : Int32 → SX → Prop} (hc : tc_CF C B T S) (hK : K < 9999) (hW : tc_W0 C B T S K k m) (H : ∀ u', tc_RX C B T S (tc_sw T k m S).1 (tc_sw T k m S).2 L u' → post (nI (tc_sn T k m S)) u') :
    ∀ f j, j + f = S → ∀ u, tc_RX C B T S (tc_sw T k m j).1 (tc_sw T k m j).2 L u → match u with | (f_caches, f_blocks, f_tokens, f_slots, hA, oA, cA, bA, sA, qA, pA, hQ, lQ, wA, mj, mt, mb, mw, ms, mc, mo, md) => wX_sweep_4 post (f + 1) (nI (tc_sn T k m j)) (nI j) f_caches f_blocks f_tokens f_slots hA oA cA bA sA qA pA hQ lQ wA mj mt mb mw ms mc mo md
  | 0, j, hj => by
    have hc' := hc
    obtain ⟨c1, c2, b1, b2, t1, t2, s1, s2⟩ := hc
    have : j = S := by omega
    subst this
    refine tc_RXi ?_
    intro hA oA cA bA sA qA pA hQ lQ wA mj mt mb mw ms mc mo md hN hQ' hM
    exact br_t (nI_le (by omega) (by omega)) (H _ ⟨rfl, rfl, rfl, rfl, hN, hQ', hM⟩)
  | f + 1, j, hj => by
    have ih := tx_sw4 hc hK hW H f (j + 1) (by omega)
    have W := (tc_sw_W hc hW j (by omega)).1
    have hc' := hc
    obtain ⟨c1, c2, b1, b2, t1, t2, s1, s2⟩ := hc
    simp only [tc_sw, tc_sn] at ih
    refine tc_RXi ?_
    intro hA oA cA bA sA qA pA hQ lQ wA mj mt mb mw ms mc mo md hN hQ' hM
    have R : tc_RX C B T S (tc_sw T k m j).1 (tc_sw T k m j).2 L (nI C, nI B, nI T, nI S, hA, oA, cA, bA, sA, qA, pA, hQ, lQ, wA, mj, mt, mb, mw, ms, mc, mo, md) := ⟨rfl, rfl, rfl, rfl, hN, hQ', hM⟩
    have hk5 := tc_kd5 W j (by omega)
    refine br_f (nI_ge (by omega) (by omega)) ⟨tc_vin (by omega) (by omega), ?_⟩
    rw [tc_cl (by omega), (hM j (by omega)).1]
    by_cases e : ((tc_sw T k m j).2 j).1 = 0
    · rw [if_pos e, if_pos e] at ih
      exact br_t ((tc_eq0 (by omega)).mpr e) (nm_r (nI_1 j) (ih _ R))
    · rw [if_neg e, if_neg e] at ih
      refine br_f (fun z => e ((tc_eq0 (by omega)).mp z)) (tx_deliver hc' hK (by omega) e W R ?_)
      clear hN hQ' hM R
      refine tc_RXi ?_
      intro hA oA cA bA sA qA pA hQ lQ wA mj mt mb mw ms mc mo md hN hQ' hM
      exact nm_r (nI_1 _) (nm_r (nI_1 j) (ih (nI C, nI B, nI T, nI S, hA, oA, cA, bA, sA, qA, pA, hQ, lQ, wA, mj, mt, mb, mw, ms, mc, mo, md) ⟨rfl, rfl, rfl, rfl, hN, hQ', hM⟩))
theorem tx_sweep {post : Int32 → SX → Prop} {u : SX} (hc : tc_CF C B T S) (hK : K < 9999) (hW : tc_W0 C B T S K k m) (hR : tc_RX C B T S k m L u)
    (H : ∀ u', tc_RX C B T S (tc_sw T k m S).1 (tc_sw T k m S).2 L u' → post (nI (tc_sn T k m S)) u') : wpX_sweep post u := by
  refine tc_RXe (P := fun u => wpX_sweep post u) ?_ hR
  intro hA oA cA bA sA qA pA hQ lQ wA mj mt mb mw ms mc mo md hN hQ' hM
  exact ⟨S + 1, tx_sw4 hc hK hW H S 0 (by omega) (nI C, nI B, nI T, nI S, hA, oA, cA, bA, sA, qA, pA, hQ, lQ, wA, mj, mt, mb, mw, ms, mc, mo, md) ⟨rfl, rfl, rfl, rfl, hN, hQ', hM⟩⟩
theorem ty_sw4 {post : Int32 → SY → Prop} (hc : tc_CF C B T S) (hK : K < 9999) (hW : tc_W0 C B T S K k m) (H : ∀ u', tc_RY C B T S (tc_sw T k m S).1 (tc_sw T k m S).2 L u' → post (nI (tc_sn T k m S)) u') :
    ∀ f j, j + f = S → ∀ u, tc_RY C B T S (tc_sw T k m j).1 (tc_sw T k m j).2 L u → match u with | (f_caches, f_blocks, f_tokens, f_slots, f_entries, pA, cA, bA, sA, wA, mj, mt, mb, mw, ms, md, qb, qc, qv) => wY_sweep_4 post (f + 1) (nI (tc_sn T k m j)) (nI j) f_caches f_blocks f_tokens f_slots f_entries pA cA bA sA wA mj mt mb mw ms md qb qc qv
  | 0, j, hj => by
    have hc' := hc
    obtain ⟨c1, c2, b1, b2, t1, t2, s1, s2⟩ := hc
    have : j = S := by omega
    subst this
    refine tc_RYi ?_
    intro pA cA bA sA wA mj mt mb mw ms md qb qc qv hN hM hQ
    exact br_t (nI_le (by omega) (by omega)) (H _ ⟨rfl, rfl, rfl, rfl, rfl, hN, hM, hQ⟩)
  | f + 1, j, hj => by
    have ih := ty_sw4 hc hK hW H f (j + 1) (by omega)
    have W := (tc_sw_W hc hW j (by omega)).1
    have hc' := hc
    obtain ⟨c1, c2, b1, b2, t1, t2, s1, s2⟩ := hc
    simp only [tc_sw, tc_sn] at ih
    refine tc_RYi ?_
    intro pA cA bA sA wA mj mt mb mw ms md qb qc qv hN hM hQ
    have R : tc_RY C B T S (tc_sw T k m j).1 (tc_sw T k m j).2 L (nI C, nI B, nI T, nI S, nI L.length, pA, cA, bA, sA, wA, mj, mt, mb, mw, ms, md, qb, qc, qv) := ⟨rfl, rfl, rfl, rfl, rfl, hN, hM, hQ⟩
    have hk5 := tc_kd5 W j (by omega)
    refine br_f (nI_ge (by omega) (by omega)) ?_
    by_cases e : ((tc_sw T k m j).2 j).1 = 0
    · rw [if_pos e, if_pos e] at ih
      refine br_f (nI_pos (by omega)) (br_f (nI_ge (by omega) (by omega)) ⟨tc_vin (by omega) (by omega), br_t ?_ ?_⟩)
      · rw [tc_cl (by omega), (hM j (by omega)).1]
        exact (tc_eq0 (by omega)).mpr e
      · exact br_t rfl (nm_r (nI_1 j) (ih (nI C, nI B, nI T, nI S, nI L.length, pA, cA, bA, sA, wA, mj, mt, mb, mw, ms, md, qb, qc, qv) R))
    · rw [if_neg e, if_neg e] at ih
      refine ty_deliver hc' hK (by omega) e W R ?_
      clear hN hM hQ R
      refine tc_RYi ?_
      intro pA cA bA sA wA mj mt mb mw ms md qb qc qv hN hM hQ
      refine br_f ?_ (nm_r (nI_1 _) (nm_r (nI_1 j) (ih (nI C, nI B, nI T, nI S, nI L.length, pA, cA, bA, sA, wA, mj, mt, mb, mw, ms, md, qb, qc, qv) ⟨rfl, rfl, rfl, rfl, rfl, hN, hM, hQ⟩)))
      split <;> decide
theorem ty_sweep {post : Int32 → SY → Prop} {u : SY} (hc : tc_CF C B T S) (hK : K < 9999) (hW : tc_W0 C B T S K k m) (hR : tc_RY C B T S k m L u)
    (H : ∀ u', tc_RY C B T S (tc_sw T k m S).1 (tc_sw T k m S).2 L u' → post (nI (tc_sn T k m S)) u') : wpY_sweep post u := by
  refine tc_RYe (P := fun u => wpY_sweep post u) ?_ hR
  intro pA cA bA sA wA mj mt mb mw ms md qb qc qv hN hM hQ
  exact ⟨S + 1, ty_sw4 hc hK hW H S 0 (by omega) (nI C, nI B, nI T, nI S, nI L.length, pA, cA, bA, sA, wA, mj, mt, mb, mw, ms, md, qb, qc, qv) ⟨rfl, rfl, rfl, rfl, rfl, hN, hM, hQ⟩⟩
end
theorem i_vc_sweep {k : Nat} {u : SX} {v : SY} (I : i_Rel k u v) (hk : k + 4 ≤ 2052) : wpX_sweep (fun r u' => wpY_sweep (fun r' v' => r' = r ∧ i_Rel (k + 4) u' v') v) u := by
  obtain ⟨C, B, T, S, q, m, L, ⟨h1, h2, h3, h4⟩, hX, hY⟩ := I
  have W := tc_sw_W h1 h2 S (Nat.le_refl S)
  exact tx_sweep h1 (by omega) h2 hX (fun u' hu => ty_sweep h1 (by omega) h2 hY (fun v' hv => ⟨rfl, C, B, T, S, _, _, L, ⟨h1, tc_W0_K (by omega) W.1, h3, fun b hb => W.2 b _ hb (h4 b hb)⟩, hu, hv⟩))
theorem i_vc_deliver {k : Nat} {u : SX} {v : SY} (I : i_Rel k u v) (hk : k + 4 ≤ 2052) (v1 : Int32) : wpX_deliver (fun r u' => wpY_deliver (fun r' v' => r' = r ∧ i_Rel (k + 4) u' v') v v1) u v1 := by
  have J := i_up I
  obtain ⟨C, B, T, S, q, m, L, ⟨h1, h2, h3, h4⟩, hX, hY⟩ := I
  have h1' := h1
  obtain ⟨c1, c2, b1, b2, t1, t2, s1, s2⟩ := h1'
  have bad : (v1 < 0 ∨ nI S ≤ v1 ∨ ∃ s, s < S ∧ v1 = nI s ∧ (m s).1 = 0) → wpX_deliver (fun r u' => wpY_deliver (fun r' v' => r' = r ∧ i_Rel (k + 4) u' v') v v1) u v1 := by
    intro hb
    rcases u with ⟨fc, fb, ft, fs, hA, oA, cA, bA, sA, qA, pA, hQ, lQ, wA, mj, mt, mb, mw, ms, mc, mo, md⟩
    rcases v with ⟨gc, gb, gt, gs, ge, zp, zc, zb, zs, zw, zk, zt, zm, zo, za, zd, zq, zr, zv⟩
    obtain ⟨rfl, rfl, rfl, rfl, hN, hQ', hM⟩ := hX
    obtain ⟨rfl, rfl, rfl, rfl, rfl, hN', hM', hQ''⟩ := hY
    unfold wpX_deliver wpX_hasMessage
    dsimp only
    by_cases z1 : v1 < 0
    · exact br_t z1 (br_t rfl (br_t z1 ⟨rfl, J⟩))
    refine br_f z1 ?_
    by_cases z2 : nI S ≤ v1
    · exact br_t z2 (br_t rfl (br_f z1 (br_t z2 ⟨rfl, J⟩)))
    refine br_f z2 ?_
    rcases hb with hb | hb | ⟨s, hs, rfl, h0⟩
    · exact absurd hb z1
    · exact absurd hb z2
    · refine ⟨tc_vin (by omega) (by omega), br_t ?_ (br_t rfl (br_f z1 (br_f z2 ⟨tc_vin (by omega) (by omega), br_t ?_ ⟨rfl, J⟩⟩)))⟩
      · rw [tc_cl (by omega), (hM s hs).1, h0]; rfl
      · rw [tc_cl (by omega), (hM' s hs).1, h0]; rfl
  rcases pk_ix v1 (n := S) (by omega) with z | z | ⟨s, hs, rfl⟩
  · exact bad (Or.inl z)
  · exact bad (Or.inr (Or.inl z))
  · by_cases h0 : (m s).1 = 0
    · exact bad (Or.inr (Or.inr ⟨s, hs, rfl, h0⟩))
    · have W := tc_dB_W c2 (by omega) hs h2 (fun z => h0 (by rw [z]; rfl))
      exact tx_deliver h1 (by omega) hs h0 h2 hX (fun u' hu => ty_deliver h1 (by omega) hs h0 h2 hY (fun v' hv => ⟨rfl, C, B, T, S, _, _, L, ⟨h1, tc_W0_K (by omega) W.1, h3, fun b hb => W.2 b _ hb (h4 b hb)⟩, hu, hv⟩))
theorem i_vc_drop {k : Nat} {u : SX} {v : SY} (I : i_Rel k u v) (hk : k + 4 ≤ 2052) (v1 : Int32) : wpX_drop (fun r u' => wpY_drop (fun r' v' => r' = r ∧ i_Rel (k + 4) u' v') v v1) u v1 := by
  have J := i_up I
  obtain ⟨C, B, T, S, q, m, L, ⟨h1, h2, h3, h4⟩, hX, hY⟩ := I
  have h1' := h1
  obtain ⟨c1, c2, b1, b2, t1, t2, s1, s2⟩ := h1'
  rcases u with ⟨fc, fb, ft, fs, hA, oA, cA, bA, sA, qA, pA, hQ, lQ, wA, mj, mt, mb, mw, ms, mc, mo, md⟩
  rcases v with ⟨gc, gb, gt, gs, ge, zp, zc, zb, zs, zw, zk, zt, zm, zo, za, zd, zq, zr, zv⟩
  have hX' := hX
  obtain ⟨rfl, rfl, rfl, rfl, hN, hQ', hM⟩ := hX'
  obtain ⟨rfl, rfl, rfl, rfl, rfl, hN', hM', hQ''⟩ := hY
  unfold wpX_drop wpX_hasMessage
  dsimp only
  by_cases z1 : v1 < 0
  · exact br_t z1 (br_t rfl (br_t z1 ⟨rfl, J⟩))
  refine br_f z1 ?_
  by_cases z2 : nI S ≤ v1
  · exact br_t z2 (br_t rfl (br_f z1 (br_t z2 ⟨rfl, J⟩)))
  refine br_f z2 ?_
  rcases pk_ix v1 (n := S) (by omega) with z | z | ⟨s, hs, rfl⟩
  · exact absurd z z1
  · exact absurd z z2
  have hk5 := tc_kd5 h2 s hs
  have e1 := (hM s hs).1
  have e2 := (hM' s hs).1
  have ec : (nI s).toNatClampNeg = s := tc_cl (by omega)
  have v32 : vp_in (nI s) 32 := tc_vin (by omega) (by omega)
  by_cases h0 : (m s).1 = 0
  · have f1 : mj (nI s).toNatClampNeg = 0 := by rw [ec, e1, h0]; rfl
    have f2 : zk (nI s).toNatClampNeg = 0 := by rw [ec, e2, h0]; rfl
    exact ⟨v32, br_t f1 (br_t rfl (br_f z1 (br_f z2 ⟨v32, br_t f2 ⟨rfl, J⟩⟩)))⟩
  have f1 : ¬ mj (nI s).toNatClampNeg = 0 := by rw [ec, e1]; exact fun z => h0 ((tc_eq0 (by omega)).mp z)
  have f2 : ¬ zk (nI s).toNatClampNeg = 0 := by rw [ec, e2]; exact fun z => h0 ((tc_eq0 (by omega)).mp z)
  refine ⟨v32, br_f f1 (br_f (by decide) ?_)⟩
  have clr : ((m s).1 = 1 ∨ (m s).1 = 2) → ∀ u', tc_RX C B T S q (tc_f1 m s tc_EMP) L u' → wpY_drop (fun r' v' => r' = 0 ∧ i_Rel (k + 4) u' v') (nI C, nI B, nI T, nI S, nI L.length, zp, zc, zb, zs, zw, zk, zt, zm, zo, za, zd, zq, zr, zv) (nI s) := by
    intro hh u' hu
    have W := tc_put_W (C := C) (B := B) (T := T) (S := S) (K := k) (k := q) (m := m) (s := s) (y := tc_EMP) (by omega) (by omega) (by decide) (Or.inl rfl) h2
    have F : i_Rel (k + 4) u' (nI C, nI B, nI T, nI S, nI L.length, zp, zc, zb, zs, zw, upd zk (nI s).toNatClampNeg 0, zt, zm, zo, za, zd, zq, zr, zv) := by
      refine ⟨C, B, T, S, q, _, L, ⟨h1, tc_W0_K (by omega) W.1, h3, fun b hb => W.2 b _ _ (h4 b hb)⟩, hu, ⟨rfl, rfl, rfl, rfl, rfl, hN', ?_, hQ''⟩⟩
      rw [ec]; exact tc_YM_clr hM'
    refine br_f z1 (br_f z2 ⟨v32, br_f f2 ⟨v32, ?_⟩⟩)
    rcases hh with hh | hh
    · exact br_t (by rw [ec, e2, hh]; rfl) ⟨v32, nm_e ⟨rfl, F⟩⟩
    · exact br_f (by rw [ec, e2, hh]; decide) ⟨v32, br_t (by rw [ec, e2, hh]; rfl) ⟨v32, nm_e ⟨rfl, F⟩⟩⟩
  unfold wpX_isRequest
  dsimp only
  refine ⟨v32, ?_⟩
  by_cases a1 : (m s).1 = 1
  · refine br_t (by rw [ec, e1, a1]; rfl) (br_f (by decide) ?_)
    exact tx_clear h1 hs hX (clr (Or.inl a1))
  refine br_f (by rw [ec, e1]; exact fun z => a1 ((tc_eq1 (by omega)).mp z)) ⟨v32, ?_⟩
  by_cases a2 : (m s).1 = 2
  · refine br_t (by rw [ec, e1, a2]; rfl) (br_f (by decide) ?_)
    exact tx_clear h1 hs hX (clr (Or.inr a2))
  refine br_f (by rw [ec, e1]; exact fun z => a2 ((tc_eq2 (by omega)).mp z)) (br_t rfl ?_)
  refine br_f z1 (br_f z2 ⟨v32, br_f f2 ⟨v32, br_f ?_ ⟨v32, br_f ?_ ⟨rfl, J⟩⟩⟩⟩)
  · rw [ec, e2]; exact fun z => a1 ((tc_eq1 (by omega)).mp z)
  · rw [ec, e2]; exact fun z => a2 ((tc_eq2 (by omega)).mp z)
end
section
/-! request -/
section
variable {C B T S K : Nat} {k : Nat → tc_BS} {m : Nat → tc_MG} {L : tc_QL} {s b n d h y st x a : Nat} {w : Int32}
theorem tc_rq_W (hb : b < B) (hn : n < C) (ha : a = 1 ∨ a = 2) (hf : C ≤ tc_fr S m) (hW : tc_W0 C B T S K k m) : ∀ d, d ≤ C + 1 →
    tc_fr S (tc_rq S a b n m d) + (if n < d then d - 1 else d) = tc_fr S m ∧ tc_W0 C B T S K k (tc_rq S a b n m d) ∧ ∀ b' h' q, tc_PB C T S m h' b' q → tc_PB C T S (tc_rq S a b n m d) h' b' q
  | 0, _ => ⟨by simp [tc_rq], hW, fun _ _ _ hP => hP⟩
  | d + 1, hd => by
    obtain ⟨i1, i2, i3⟩ := tc_rq_W hb hn ha hf hW d (by omega)
    simp only [tc_rq]
    by_cases e : d = n
    · rw [if_pos e, if_pos (by omega)]
      rw [if_neg (by omega)] at i1
      exact ⟨by omega, i2, i3⟩
    · rw [if_neg e]
      have h0 : 0 < tc_fr S (tc_rq S a b n m d) := by
        by_cases q : n < d
        · rw [if_pos q] at i1; omega
        · rw [if_neg q] at i1; omega
      obtain ⟨f1, f2⟩ := tc_fe_ok h0
      have f3 := tc_pu_fr (x := (a, d, b, n, 9999, -2)) h0 (by simp only; omega)
      have W := tc_put_W (C := C) (B := B) (T := T) (S := S) (K := K) (k := k) (m := tc_rq S a b n m d) (s := tc_fe S (tc_rq S a b n m d)) (y := (a, d, b, n, 9999, -2)) (by omega) (by omega) (by simp only; omega)
        (Or.inr ⟨hb, by omega, Or.inl ⟨ha, hn, rfl, rfl⟩⟩) i2
      refine ⟨?_, W.1, fun b' h' q hP => W.2 b' h' q (i3 b' h' q hP)⟩
      by_cases q : n < d
      · rw [if_pos q] at i1; rw [if_pos (by omega)]; omega
      · rw [if_neg q] at i1; rw [if_neg (by omega)]; omega
theorem tc_rq_0 (hb : b < B) (hn : n < C) (ha : a = 1 ∨ a = 2) (hf : C ≤ tc_fr S m) (hW : tc_W0 C B T S K k m) (hd : d ≤ C) (e : d ≠ n) : 0 < tc_fr S (tc_rq S a b n m d) := by
  obtain ⟨i1, i2, i3⟩ := tc_rq_W hb hn ha hf hW d (by omega)
  by_cases q : n < d
  · rw [if_pos q] at i1; omega
  · rw [if_neg q] at i1; omega
theorem tx_rq51 {post : Int32 → SX → Prop} (hc : tc_CF C B T S) (hb : b < B) (hn : n < C) (ha : a = 1 ∨ a = 2) (hf : C ≤ tc_fr S m) (hW : tc_W0 C B T S K k m)
    (H : ∀ u', tc_RX C B T S k (tc_rq S a b n m (C + 1)) L u' → post (nI C) u') :
    ∀ f d, d + f = C + 1 → ∀ u, tc_RX C B T S k (tc_rq S a b n m d) L u → match u with | (f_caches, f_blocks, f_tokens, f_slots, hA, oA, cA, bA, sA, qA, pA, hQ, lQ, wA, mj, mt, mb, mw, ms, mc, mo, md) => wX_request_51 post (nI n) (nI b) (nI a) (f + 1) (nI d) f_caches f_blocks f_tokens f_slots hA oA cA bA sA qA pA hQ lQ wA mj mt mb mw ms mc mo md
  | 0, d, hd => by
    have hc' := hc
    obtain ⟨c1, c2, b1, b2, t1, t2, s1, s2⟩ := hc
    have : d = C + 1 := by omega
    subst this
    refine tc_RXi ?_
    intro hA oA cA bA sA qA pA hQ lQ wA mj mt mb mw ms mc mo md hN hQ' hM
    exact br_t (nI_lt (by omega) (by omega)) (H _ ⟨rfl, rfl, rfl, rfl, hN, hQ', hM⟩)
  | f + 1, d, hd => by
    have ih := tx_rq51 hc hb hn ha hf hW H f (d + 1) (by omega)
    have hc' := hc
    obtain ⟨c1, c2, b1, b2, t1, t2, s1, s2⟩ := hc
    obtain ⟨i1, i2, i3⟩ := tc_rq_W hb hn ha hf hW d (by omega)
    simp only [tc_rq] at ih
    refine tc_RXi ?_
    intro hA oA cA bA sA qA pA hQ lQ wA mj mt mb mw ms mc mo md hN hQ' hM
    have R : tc_RX C B T S k (tc_rq S a b n m d) L (nI C, nI B, nI T, nI S, hA, oA, cA, bA, sA, qA, pA, hQ, lQ, wA, mj, mt, mb, mw, ms, mc, mo, md) := ⟨rfl, rfl, rfl, rfl, hN, hQ', hM⟩
    refine br_f (nI_nlt (by omega) (by omega)) ?_
    by_cases e : d = n
    · rw [if_pos e] at ih
      exact br_t (by rw [e]) (nm_r (nI_1 d) (ih _ R))
    · rw [if_neg e] at ih
      refine br_f (fun z => e ((tc_eq (by omega) (by omega)).mp z)) (tx_firstEmpty hc' (tc_kd5 i2) R ?_)
      obtain ⟨f1, f2⟩ := tc_fe_ok (tc_rq_0 hb hn ha hf hW (by omega) e)
      rw [tc_mIl (by omega)]
      have P := tx_putRequest (y := n) (a := a) (d := d) (b := b) (post := fun u => match u with | (f_caches, f_blocks, f_tokens, f_slots, hA, oA, cA, bA, sA, qA, pA, hQ, lQ, wA, mj, mt, mb, mw, ms, mc, mo, md) => ∀ y, y = nI d + 1 → wX_request_51 post (nI n) (nI b) (nI a) (f + 1) y f_caches f_blocks f_tokens f_slots hA oA cA bA sA qA pA hQ lQ wA mj mt mb mw ms mc mo md) hc' f1 (by omega) (by omega) (by omega) R (by
        clear hN hQ' hM R
        refine tc_RXi ?_
        intro hA oA cA bA sA qA pA hQ lQ wA mj mt mb mw ms mc mo md hN hQ' hM
        exact nm_r (nI_1 d) (ih (nI C, nI B, nI T, nI S, hA, oA, cA, bA, sA, qA, pA, hQ, lQ, wA, mj, mt, mb, mw, ms, mc, mo, md) ⟨rfl, rfl, rfl, rfl, hN, hQ', hM⟩))
      rw [tc_nzl (by omega)] at P
      exact P
theorem ty_rq68 {post : Int32 → SY → Prop} {x3 : Int32} (hc : tc_CF C B T S) (hb : b < B) (hn : n < C) (ha : (a = 1 ∧ x3 = 0) ∨ (a = 2 ∧ ¬ x3 = 0)) (hf : C ≤ tc_fr S m) (hW : tc_W0 C B T S K k m)
    (H : ∀ u', tc_RY C B T S k (tc_rq S a b n m (C + 1)) L u' → post (nI C) u') :
    ∀ f d, d + f = C + 1 → ∀ u, tc_RY C B T S k (tc_rq S a b n m d) L u → match u with | (f_caches, f_blocks, f_tokens, f_slots, f_entries, pA, cA, bA, sA, wA, mj, mt, mb, mw, ms, md, qb, qc, qv) => wY_request_68 post (nI n) (nI b) x3 (f + 1) (nI d) f_caches f_blocks f_tokens f_slots f_entries pA cA bA sA wA mj mt mb mw ms md qb qc qv
  | 0, d, hd => by
    have hc' := hc
    obtain ⟨c1, c2, b1, b2, t1, t2, s1, s2⟩ := hc
    have : d = C + 1 := by omega
    subst this
    refine tc_RYi ?_
    intro pA cA bA sA wA mj mt mb mw ms md qb qc qv hN hM hQ
    exact br_t (nI_lt (by omega) (by omega)) (H _ ⟨rfl, rfl, rfl, rfl, rfl, hN, hM, hQ⟩)
  | f + 1, d, hd => by
    have ih := ty_rq68 hc hb hn ha hf hW H f (d + 1) (by omega)
    have hc' := hc
    obtain ⟨c1, c2, b1, b2, t1, t2, s1, s2⟩ := hc
    have ha' : a = 1 ∨ a = 2 := by omega
    obtain ⟨i1, i2, i3⟩ := tc_rq_W hb hn ha' hf hW d (by omega)
    simp only [tc_rq] at ih
    refine tc_RYi ?_
    intro pA cA bA sA wA mj mt mb mw ms md qb qc qv hN hM hQ
    have R : tc_RY C B T S k (tc_rq S a b n m d) L (nI C, nI B, nI T, nI S, nI L.length, pA, cA, bA, sA, wA, mj, mt, mb, mw, ms, md, qb, qc, qv) := ⟨rfl, rfl, rfl, rfl, rfl, hN, hM, hQ⟩
    refine br_f (nI_nlt (by omega) (by omega)) (ty_lowestEmpty hc' (tc_kd5 i2) R ?_)
    by_cases e : d = n
    · rw [if_pos e] at ih
      exact br_t (by rw [e]) (nm_r (nI_1 d) (ih (nI C, nI B, nI T, nI S, nI L.length, pA, cA, bA, sA, wA, mj, mt, mb, mw, ms, md, qb, qc, qv) R))
    · rw [if_neg e] at ih
      refine br_f (fun z => e ((tc_eq (by omega) (by omega)).mp z)) ?_
      obtain ⟨f1, f2⟩ := tc_fe_ok (tc_rq_0 hb hn ha' hf hW (by omega) e)
      rw [tc_mIl (by omega)]
      have P : wY_request_101 post (wY_request_68 post (nI n) (nI b) x3 (f + 1)) (nI n) (nI b) x3 (nI d) (nI a) (nI (tc_fe S (tc_rq S a b n m d))) (nI C) (nI B) (nI T) (nI S) (nI L.length) pA cA bA sA wA mj mt mb mw ms md qb qc qv := by
        unfold wY_request_101
        refine ty_put (a := a) (d := d) (b := b) (y := n) (st := 9999) (dat := -2) hc' f1 (fun _ => (tc_nzl (by omega)).symm) (fun z => by omega) (fun z => by omega) R ?_
        clear hN hM hQ R
        refine tc_RYi ?_
        intro pA cA bA sA wA mj mt mb mw ms md qb qc qv hN hM hQ
        exact nm_r (nI_1 d) (ih (nI C, nI B, nI T, nI S, nI L.length, pA, cA, bA, sA, wA, mj, mt, mb, mw, ms, md, qb, qc, qv) ⟨rfl, rfl, rfl, rfl, rfl, hN, hM, hQ⟩)
      rcases ha with ⟨h1, h2⟩ | ⟨h1, h2⟩
      · subst h1; exact br_t h2 P
      · subst h1; exact br_f h2 P
end
theorem i_vc_request {k : Nat} {u : SX} {v : SY} (I : i_Rel k u v) (hk : k + 4 ≤ 2052) (v1 : Int32) (v2 : Int32) (v3 : Int32) : wpX_request (fun r u' => wpY_request (fun r' v' => r' = r ∧ i_Rel (k + 4) u' v') v v1 v2 (lw_bz v3)) u v1 v2 (lw_bz v3) := by
  have J := i_up I
  obtain ⟨C, B, T, S, q, m, L, ⟨h1, h2, h3, h4⟩, hX, hY⟩ := I
  have A := tc_arg h1 hX hY v1 v2
  rcases u with ⟨fc, fb, ft, fs, hA, oA, cA, bA, sA, qA, pA, hQ, lQ, wA, mj, mt, mb, mw, ms, mc, mo, md⟩
  rcases v with ⟨gc, gb, gt, gs, ge, zp, zc, zb, zs, zw, zk, zt, zm, zo, za, zd, zq, zr, zv⟩
  have h1' := h1
  obtain ⟨c1, c2, b1, b2, t1, t2, s1, s2⟩ := h1'
  have hX' := hX
  have hY' := hY
  obtain ⟨rfl, rfl, rfl, rfl, hN, hQ', hM⟩ := hX'
  obtain ⟨rfl, rfl, rfl, rfl, rfl, hN', hM', hQ''⟩ := hY'
  have hfr := tc_ct_le (tc_kk m) 0 S
  have hfr : tc_fr S m ≤ S := hfr
  unfold wpX_request wpY_request
  dsimp only
  rcases A with ⟨a1, a2⟩ | ⟨n, b, hn, hb, rfl, rfl, a1, a2⟩
  · refine a1 _ ?_
    refine br_t rfl ?_
    refine a2 _ ?_
    exact br_f (by decide) ⟨rfl, J⟩
  · have hp := tc_W_p h1 h2 hb
    have hct := tc_ct_le (q b).1 n T
    have g3 : zc (n * 4 + b) = (q b).2.1 n := ((hN' b hb).2.2 n (by omega)).1
    have YF : ∀ (z3 : Int32) (u' : SX), tc_fr S m < C → i_Rel (k + 4) u' (nI C, nI B, nI T, nI S, nI L.length, zp, zc, zb, zs, zw, zk, zt, zm, zo, za, zd, zq, zr, zv) → wY_request_51 (fun r' v' => r' = -3 ∧ i_Rel (k + 4) u' v') (nI n) (nI b) z3 (nI C) (nI B) (nI T) (nI S) (nI L.length) zp zc zb zs zw zk zt zm zo za zd zq zr zv := by
      intro z3 u' hf J'
      unfold wY_request_51
      refine ty_free h1 (tc_kd5 h2) hY ?_
      exact br_f (nI_ge hf (by omega)) ⟨rfl, J'⟩
    have YG : ∀ (z3 : Int32) (a : Nat) (u' : SX), C ≤ tc_fr S m → ((a = 1 ∧ z3 = 0) ∨ (a = 2 ∧ ¬ z3 = 0)) → tc_RX C B T S q (tc_rq S a b n m (C + 1)) L u' → wY_request_51 (fun r' v' => r' = nI C ∧ i_Rel (k + 4) u' v') (nI n) (nI b) z3 (nI C) (nI B) (nI T) (nI S) (nI L.length) zp zc zb zs zw zk zt zm zo za zd zq zr zv := by
      intro z3 a u' hf ha hu
      unfold wY_request_51
      refine ty_free h1 (tc_kd5 h2) hY ?_
      refine br_t (nI_le hf (by omega)) ⟨C + 1 + 1, ?_⟩
      have W := tc_rq_W hb hn (a := a) (by omega) hf h2 (C + 1) (Nat.le_refl _)
      exact ty_rq68 (m := m) (a := a) h1 hb hn ha hf h2 (fun v' hv => ⟨rfl, C, B, T, S, q, _, L, ⟨h1, tc_W0_K (by omega) W.2.1, h3, fun b' hb' => W.2.2 b' _ _ (h4 b' hb')⟩, hu, hv⟩) (C + 1) 0 (by omega) (nI C, nI B, nI T, nI S, nI L.length, zp, zc, zb, zs, zw, zk, zt, zm, zo, za, zd, zq, zr, zv) hY
    refine a1 _ ?_
    refine br_f (by decide) ?_
    rcases lw_bz_01 v3 with e | e
    · rw [e]
      refine tx_hasRightR h1 hb (by omega) hX ?_
      by_cases z : (q b).2.1 n = -2
      · have y30 : ∀ P : Int32 → SY → Prop, wY_request_51 P (nI n) (nI b) 0 (nI C) (nI B) (nI T) (nI S) (nI L.length) zp zc zb zs zw zk zt zm zo za zd zq zr zv → wpY_outside (fun r_1 => (r_1 = 0 → ((0 : Int32) = 0 → wY_request_30 P (nI n) (nI b) 0 (nI C) (nI B) (nI T) (nI S) (nI L.length) zp zc zb zs zw zk zt zm zo za zd zq zr zv) ∧ (¬ (0 : Int32) = 0 → wpY_tokensAt (fun r_92 => (r_92 = nI T → P 0 (nI C, nI B, nI T, nI S, nI L.length, zp, zc, zb, zs, zw, zk, zt, zm, zo, za, zd, zq, zr, zv)) ∧ (¬ r_92 = nI T → wY_request_30 P (nI n) (nI b) 0 (nI C) (nI B) (nI T) (nI S) (nI L.length) zp zc zb zs zw zk zt zm zo za zd zq zr zv)) (nI C, nI B, nI T, nI S, nI L.length, zp, zc, zb, zs, zw, zk, zt, zm, zo, za, zd, zq, zr, zv) (nI n) (nI b))) ∧ (¬ r_1 = 0 → P (-1) (nI C, nI B, nI T, nI S, nI L.length, zp, zc, zb, zs, zw, zk, zt, zm, zo, za, zd, zq, zr, zv))) (nI C, nI B, nI T, nI S, nI L.length, zp, zc, zb, zs, zw, zk, zt, zm, zo, za, zd, zq, zr, zv) (nI n) (nI b) := by
          intro P hP
          refine a2 _ ?_
          refine br_t rfl (br_t rfl ?_)
          unfold wY_request_30
          refine br_t rfl ?_
          rw [tc_c4, tc_cl (by omega)]
          refine ⟨tc_vin (by omega) (by omega), br_t (by rw [g3]; exact z) hP⟩
        rw [if_pos z]
        refine br_t rfl ?_
        refine tx_free h1 (tc_kd5 h2) hX ?_
        by_cases hf : C ≤ tc_fr S m
        · refine br_t (nI_le hf (by omega)) (br_t rfl ⟨C + 1 + 1, ?_⟩)
          refine tx_rq51 (m := m) (a := 1) h1 hb hn (Or.inl rfl) hf h2 (fun u' hu => ?_) (C + 1) 0 (by omega) (nI C, nI B, nI T, nI S, hA, oA, cA, bA, sA, qA, pA, hQ, lQ, wA, mj, mt, mb, mw, ms, mc, mo, md) hX
          exact y30 _ (YG 0 1 u' hf (Or.inl ⟨rfl, rfl⟩) hu)
        · refine br_f (nI_ge (by omega) (by omega)) ?_
          exact y30 _ (YF 0 _ (by omega) J)
      · rw [if_neg z]
        refine br_f (by decide) ?_
        refine a2 _ ?_
        refine br_t rfl (br_t rfl ?_)
        unfold wY_request_30
        refine br_t rfl ?_
        rw [tc_c4, tc_cl (by omega)]
        exact ⟨tc_vin (by omega) (by omega), br_f (by rw [g3]; exact z) ⟨rfl, J⟩⟩
    · rw [e]
      refine tx_hasRightW h1 hb (by omega) hX ?_
      by_cases z : tc_ct (q b).1 n T = T
      · rw [if_pos z]
        refine br_f (by decide) ?_
        refine a2 _ ?_
        refine br_t rfl (br_f (by decide) ?_)
        refine ty_tokensAt h1 hb (by omega) hp hY ?_
        exact br_t (by rw [z]) ⟨rfl, J⟩
      · have y30 : ∀ P : Int32 → SY → Prop, wY_request_51 P (nI n) (nI b) 1 (nI C) (nI B) (nI T) (nI S) (nI L.length) zp zc zb zs zw zk zt zm zo za zd zq zr zv → wpY_outside (fun r_1 => (r_1 = 0 → ((1 : Int32) = 0 → wY_request_30 P (nI n) (nI b) 1 (nI C) (nI B) (nI T) (nI S) (nI L.length) zp zc zb zs zw zk zt zm zo za zd zq zr zv) ∧ (¬ (1 : Int32) = 0 → wpY_tokensAt (fun r_92 => (r_92 = nI T → P 0 (nI C, nI B, nI T, nI S, nI L.length, zp, zc, zb, zs, zw, zk, zt, zm, zo, za, zd, zq, zr, zv)) ∧ (¬ r_92 = nI T → wY_request_30 P (nI n) (nI b) 1 (nI C) (nI B) (nI T) (nI S) (nI L.length) zp zc zb zs zw zk zt zm zo za zd zq zr zv)) (nI C, nI B, nI T, nI S, nI L.length, zp, zc, zb, zs, zw, zk, zt, zm, zo, za, zd, zq, zr, zv) (nI n) (nI b))) ∧ (¬ r_1 = 0 → P (-1) (nI C, nI B, nI T, nI S, nI L.length, zp, zc, zb, zs, zw, zk, zt, zm, zo, za, zd, zq, zr, zv))) (nI C, nI B, nI T, nI S, nI L.length, zp, zc, zb, zs, zw, zk, zt, zm, zo, za, zd, zq, zr, zv) (nI n) (nI b) := by
          intro P hP
          refine a2 _ ?_
          refine br_t rfl (br_f (by decide) ?_)
          refine ty_tokensAt h1 hb (by omega) hp hY ?_
          refine br_f (fun e => z ((tc_eq (by omega) (by omega)).mp e)) ?_
          unfold wY_request_30
          exact br_f (by decide) hP
        rw [if_neg z]
        refine br_t rfl ?_
        refine tx_free h1 (tc_kd5 h2) hX ?_
        by_cases hf : C ≤ tc_fr S m
        · refine br_t (nI_le hf (by omega)) (br_f (by decide) ⟨C + 1 + 1, ?_⟩)
          refine tx_rq51 (m := m) (a := 2) h1 hb hn (Or.inr rfl) hf h2 (fun u' hu => ?_) (C + 1) 0 (by omega) (nI C, nI B, nI T, nI S, hA, oA, cA, bA, sA, qA, pA, hQ, lQ, wA, mj, mt, mb, mw, ms, mc, mo, md) hX
          exact y30 _ (YG 1 2 u' hf (Or.inr ⟨rfl, by decide⟩) hu)
        · refine br_f (nI_ge (by omega) (by omega)) ?_
          exact y30 _ (YF 1 _ (by omega) J)
end
section
/-! peek, census -/
theorem i_vc_peek {k : Nat} {u : SX} {v : SY} (I : i_Rel k u v) (hk : k + 4 ≤ 2052) (v1 : Int32) (v2 : Int32) : wpX_peek (fun r => wpY_peek (fun r' => r' = r ∧ i_Rel (k + 4) u v) v v1 v2) u v1 v2 := by
  have J := i_up I
  obtain ⟨C, B, T, S, q, m, L, ⟨h1, h2, h3, h4⟩, hX, hY⟩ := I
  have h1' := h1
  obtain ⟨c1, c2, b1, b2, t1, t2, s1, s2⟩ := h1'
  generalize hJ : i_Rel (k + 4) u v = J' at J ⊢
  clear hJ
  rcases u with ⟨fc, fb, ft, fs, hA, oA, cA, bA, sA, qA, pA, hQ, lQ, wA, mj, mt, mb, mw, ms, mc, mo, md⟩
  rcases v with ⟨gc, gb, gt, gs, ge, zp, zc, zb, zs, zw, zk, zt, zm, zo, za, zd, zq, zr, zv⟩
  have hY' := hY
  obtain ⟨rfl, rfl, rfl, rfl, hN, hQ', hM⟩ := hX
  obtain ⟨rfl, rfl, rfl, rfl, rfl, hN', hM', hQ''⟩ := hY'
  by_cases z1 : v1 < 0
  · exact br_t z1 (br_t z1 ⟨rfl, J⟩)
  refine br_f z1 ?_
  by_cases z2 : nI S ≤ v1
  · exact br_f (Int32.not_lt.mpr z2) (br_f z1 (br_t z2 ⟨rfl, J⟩))
  refine br_t (Int32.not_le.mp z2) ?_
  by_cases z3 : v2 < 0
  · exact br_t z3 (br_f z1 (br_f z2 (br_t z3 ⟨rfl, J⟩)))
  refine br_f z3 ?_
  by_cases z4 : 7 < v2
  · exact br_t z4 (br_f z1 (br_f z2 (br_f z3 (br_f (Int32.not_le.mpr z4) ⟨rfl, J⟩))))
  refine br_f z4 ?_
  have z5 : v2 ≤ 7 := Int32.not_lt.mp z4
  rcases pk_ix v1 (n := S) (by omega) with z | z | ⟨s, hs, rfl⟩
  · exact absurd z z1
  · exact absurd z z2
  have ec : (nI s).toNatClampNeg = s := tc_cl (by omega)
  have v32 : vp_in (nI s) 32 := tc_vin (by omega) (by omega)
  have g := hM s hs
  have g' := hM' s hs
  have hw := h2.2 s hs
  have hk5 := tc_kd5 h2 s hs
  have YY : ∀ post : Int32 → Prop, ((v2 = 0 → post (zk s)) ∧ (¬ v2 = 0 → (zk s = 0 → post (-2)) ∧ (¬ zk s = 0 → (v2 = 1 → vp_in (nI s) 32 ∧ post (zt s)) ∧ (¬ v2 = 1 → (v2 = 2 → post (zm s)) ∧ (¬ v2 = 2 →
      (v2 = 3 → (zk s = 3 → post (-2)) ∧ (¬ zk s = 3 → vp_in (nI s) 32 ∧ post (zo s))) ∧ (¬ v2 = 3 → (v2 = 4 → (zk s = 4 → vp_in (nI s) 32 ∧ post (za s)) ∧ (¬ zk s = 4 → post (-2))) ∧ (¬ v2 = 4 →
      (zk s = 3 → (v2 = 5 → wpY_tokensAt post (nI C, nI B, nI T, nI S, nI L.length, zp, zc, zb, zs, zw, zk, zt, zm, zo, za, zd, zq, zr, zv) (8 + nI s) (zm s)) ∧ (¬ v2 = 5 → (v2 = 6 → vp_in (zm s * 8) 32 ∧ (zp (zm s * 8).toNatClampNeg = 8 + nI s → post 1) ∧ (¬ zp (zm s * 8).toNatClampNeg = 8 + nI s → post 0)) ∧ (¬ v2 = 6 → vp_in (nI s) 32 ∧ post (zd s)))) ∧
      (¬ zk s = 3 → post (-2))))))))) → wpY_peek post (nI C, nI B, nI T, nI S, nI L.length, zp, zc, zb, zs, zw, zk, zt, zm, zo, za, zd, zq, zr, zv) (nI s) v2 := by
    intro post hp
    refine br_f z1 (br_f z2 (br_f z3 (br_t z5 ⟨v32, nm_e ⟨v32, nm_e ?_⟩⟩)))
    rw [ec]
    exact hp
  rcases hm : m s with ⟨a, d, b, y, st, w⟩
  rw [hm] at g g' hw hk5
  obtain ⟨e1, e2, e3, e4, e5, e6, e7, e8⟩ := g
  obtain ⟨f1, f2⟩ := g'
  simp only at e1 e2 e3 e4 e5 e6 e7 e8 f1 f2 hk5
  have k0 : zk s = 0 ↔ a = 0 := by rw [f1]; exact tc_eq0 (by omega)
  have k3 : zk s = 3 ↔ a = 3 := by rw [f1]; exact tc_eq3 (by omega)
  have k4 : zk s = 4 ↔ a = 4 := by rw [f1]; exact tc_eq4 (by omega)
  rcases hw with hw | ⟨hb, hd, hw⟩
  · -- empty
    have q1 : a = 0 := congrArg (fun r : tc_MG => r.1) hw
    have q2 : d = 9999 := congrArg (fun r : tc_MG => r.2.1) hw
    have q3 : b = 9999 := congrArg (fun r : tc_MG => r.2.2.1) hw
    have q4 : y = 9999 := congrArg (fun r : tc_MG => r.2.2.2.1) hw
    have q5 : st = 9999 := congrArg (fun r : tc_MG => r.2.2.2.2.1) hw
    have q6 : w = -2 := congrArg (fun r : tc_MG => r.2.2.2.2.2) hw
    subst q1 q2 q3 q4 q5 q6
    rw [tc_nzN] at e2 e3 e4 e5
    rw [if_neg (by decide)] at e6 e7
    refine br_c (fun p0 => ⟨v32, YY _ (br_t p0 ⟨?_, J⟩)⟩) (fun p0 => ?_)
    · rw [ec, e1, f1]
    have fin : ∀ r : Int32, r = -2 → wpY_peek (fun r' => r' = r ∧ J') (nI C, nI B, nI T, nI S, nI L.length, zp, zc, zb, zs, zw, zk, zt, zm, zo, za, zd, zq, zr, zv) (nI s) v2 := fun r hr => YY _ (br_f p0 (br_t (k0.mpr rfl) ⟨hr.symm, J⟩))
    rw [ec]
    refine br_c (fun _ => ⟨v32, fin _ e2⟩) (fun _ => br_c (fun _ => ⟨v32, fin _ e3⟩) (fun _ => br_c (fun _ => ⟨v32, fin _ e4⟩) (fun _ => br_c (fun _ => ⟨v32, fin _ e5⟩) (fun _ => br_c (fun _ => ⟨v32, fin _ e6⟩) (fun _ => br_c (fun _ => ⟨v32, fin _ e7⟩) (fun _ => br_c (fun _ => ⟨v32, fin _ e8⟩) (fun _ => trivial)))))))
  · -- a message
    have a0 : a ≠ 0 := by omega
    have n0 : ¬ zk s = 0 := fun z => a0 (k0.mp z)
    obtain ⟨f2, f3, f4, f5, f6⟩ := f2 a0
    rw [tc_nzl (by omega)] at e2 e3
    have hp := tc_W_p h1 h2 hb
    have hp0 := hp 0 (by omega)
    have p0 : zp (b * 8) = nI ((q b).1 0) := (hN' b hb).2.1 0 (by omega)
    refine br_c (fun p0 => ⟨v32, YY _ (br_t p0 ⟨?_, J⟩)⟩) (fun p0 => ?_)
    · rw [ec, e1, f1]
    rw [ec]
    refine br_c (fun p1 => ⟨v32, YY _ (br_f p0 (br_f n0 (br_t p1 ⟨v32, ?_, J⟩)))⟩) (fun p1 => ?_)
    · rw [e2, f2]
    refine br_c (fun p2 => ⟨v32, YY _ (br_f p0 (br_f n0 (br_f p1 (br_t p2 ⟨?_, J⟩))))⟩) (fun p2 => ?_)
    · rw [e3, f3]
    refine br_c (fun p3 => ⟨v32, YY _ (br_f p0 (br_f n0 (br_f p1 (br_f p2 (br_t p3 (br_c (fun x3 => ⟨?_, J⟩) (fun x3 => ⟨v32, ?_, J⟩)))))))⟩) (fun p3 => ?_)
    · have := k3.mp x3
      have : y = 9999 := by omega
      rw [e4, this, tc_nzN]
    · rw [e4]; exact f4 (fun z => x3 (k3.mpr z))
    refine br_c (fun p4 => ⟨v32, YY _ (br_f p0 (br_f n0 (br_f p1 (br_f p2 (br_f p3 (br_t p4 (br_c (fun x4 => ⟨v32, ?_, J⟩) (fun x4 => ⟨?_, J⟩))))))))⟩) (fun p4 => ?_)
    · have a4 := k4.mp x4
      have : st ≤ k := by
        rcases hw with hw | hw | hw
        · omega
        · omega
        · exact Nat.le_trans hw.2.2.2.1 (tc_W_t h2 hb (Nat.le_refl C)).2
      rw [e5, f5 a4, tc_nzl (by omega)]
    · have a4 : a ≠ 4 := fun z => x4 (k4.mpr z)
      have : st = 9999 := by omega
      rw [e5, this, tc_nzN]
    have Y5 : ∀ post : Int32 → Prop, ((a = 3 → (v2 = 5 → wpY_tokensAt post (nI C, nI B, nI T, nI S, nI L.length, zp, zc, zb, zs, zw, zk, zt, zm, zo, za, zd, zq, zr, zv) (8 + nI s) (zm s)) ∧ (¬ v2 = 5 → (v2 = 6 → vp_in (zm s * 8) 32 ∧ (zp (zm s * 8).toNatClampNeg = 8 + nI s → post 1) ∧ (¬ zp (zm s * 8).toNatClampNeg = 8 + nI s → post 0)) ∧ (¬ v2 = 6 → vp_in (nI s) 32 ∧ post (zd s)))) ∧
      (¬ a = 3 → post (-2))) → wpY_peek post (nI C, nI B, nI T, nI S, nI L.length, zp, zc, zb, zs, zw, zk, zt, zm, zo, za, zd, zq, zr, zv) (nI s) v2 := by
      intro post hp
      refine YY _ (br_f p0 (br_f n0 (br_f p1 (br_f p2 (br_f p3 (br_f p4 ?_))))))
      rw [k3]; exact hp
    have v8 : wpY_tokensAt (fun r' => r' = nI (tc_ct (q b).1 (8 + s) T) ∧ J') (nI C, nI B, nI T, nI S, nI L.length, zp, zc, zb, zs, zw, zk, zt, zm, zo, za, zd, zq, zr, zv) (8 + nI s) (zm s) := by
      rw [f3, tc_8p]
      exact ty_tokensAt h1 hb (by omega) hp hY ⟨rfl, J⟩
    refine br_c (fun p5 => ⟨v32, Y5 _ (br_c (fun a3 => br_t p5 ?_) (fun a3 => ⟨?_, J⟩))⟩) (fun p5 => ?_)
    · rw [e6, if_pos a3]; exact v8
    · rw [e6, if_neg a3]
    refine br_c (fun p6 => ⟨v32, Y5 _ (br_c (fun a3 => br_f p5 (br_t p6 ?_)) (fun a3 => ⟨?_, J⟩))⟩) (fun p6 => ?_)
    · rw [f3, tc_m8, tc_8p, e7, if_pos a3]
      refine ⟨tc_vin (by omega) (by omega), ?_⟩
      rw [tc_cl (by omega), ‹zp (b * 8) = nI ((q b).1 0)›]
      refine br_c (fun z => ⟨?_, J⟩) (fun z => ⟨?_, J⟩)
      · rw [if_pos ((tc_eq (by omega) (by omega)).mp z)]
      · rw [if_neg (fun e => z (by rw [e]))]
    · rw [e7, if_neg a3]
    refine br_c (fun p7 => ⟨v32, Y5 _ (br_c (fun a3 => br_f p5 (br_f p6 ⟨v32, ?_, J⟩)) (fun a3 => ⟨?_, J⟩))⟩) (fun p7 => trivial)
    · rw [e8, f6 a3]
    · have : w = -2 := by
        rcases hw with hw | hw | hw
        · exact hw.2.2.2
        · exact absurd hw.1 a3
        · exact hw.2.2.2.2
      rw [e8, this]
end
section
/-! census, look -/
def tc_s1 (T : Nat) (p : Nat → Nat) : Nat → Nat
  | 0 => 0
  | n + 1 => tc_s1 T p n + tc_ct p n T
def tc_s2 (T b : Nat) (p : Nat → Nat) (m : Nat → tc_MG) (x : Nat) : Nat → Nat
  | 0 => x
  | s + 1 => if (m s).1 = 3 ∧ (m s).2.2.1 = b then tc_s2 T b p m x s + tc_ct p (8 + s) T else tc_s2 T b p m x s
def tc_lb (L : tc_QL) : Nat → Nat := fun i => ((L[i]?).getD (9999, 0, 0)).1
section
variable {C B T S K : Nat} {k : Nat → tc_BS} {m : Nat → tc_MG} {L : tc_QL} {s b n d h y st x : Nat} {w : Int32} {post : Int32 → Prop}
theorem tx_ce48 {hA oA cA bA sA qA pA hQ lQ wA mj mt mb mw ms mc mo md : Nat → Int32} (hc : tc_CF C B T S) (hb : b < B) (hW : tc_W0 C B T S K k m) (hM : tc_XM S T k m mj mt mb mw ms mc mo md) (hp : post (nI (tc_s2 T b (k b).1 m x S))) : ∀ f i, i + f = S →
    wX_census_48 post (nI b) (nI C) (nI B) (nI T) (nI S) hA oA cA bA sA qA pA hQ lQ wA mj mt mb mw ms mc mo md (f + 1) (nI (tc_s2 T b (k b).1 m x i)) (nI i)
  | 0, i, h => by
    obtain ⟨c1, c2, b1, b2, t1, t2, s1, s2⟩ := hc
    have e : i = S := by omega
    subst e
    exact br_t (nI_le (by omega) (by omega)) hp
  | f + 1, i, h => by
    have hc' := hc
    obtain ⟨c1, c2, b1, b2, t1, t2, s1, s2⟩ := hc
    have hk5 := tc_kd5 hW i (by omega)
    have hw := hW.2 i (by omega)
    have g := hM i (by omega)
    have ih : wX_census_48 post (nI b) (nI C) (nI B) (nI T) (nI S) hA oA cA bA sA qA pA hQ lQ wA mj mt mb mw ms mc mo md (f + 1) (nI (tc_s2 T b (k b).1 m x (i + 1))) (nI (i + 1)) := tx_ce48 hc' hb hW hM hp f (i + 1) (by omega)
    simp only [tc_s2] at ih
    refine br_f (nI_ge (by omega) (by omega)) ⟨tc_vin (by omega) (by omega), ?_⟩
    rw [tc_cl (by omega), g.1, g.2.2.1, g.2.2.2.2.2.1]
    by_cases e : (m i).1 = 3
    · refine br_t ((tc_eq3 (by omega)).mpr e) ⟨tc_vin (by omega) (by omega), ?_⟩
      have hbk : (m i).2.2.1 < B := by
        revert hw e
        rcases m i with ⟨a, d, bb, y, st, v⟩
        intro hw e
        rcases hw with hw | hw
        · rw [hw] at e; exact absurd e (by decide)
        · exact hw.1
      by_cases e2 : (m i).2.2.1 = b
      · rw [if_pos ⟨e, e2⟩] at ih
        refine br_t ((tc_nz_nI (by omega) (by omega)).mpr e2) ⟨tc_vin (by omega) (by omega), ?_⟩
        rw [if_pos e, e2]
        exact nm_r (nI_add _ _) (nm_r (nI_1 i) ih)
      · rw [if_neg (fun z => e2 z.2)] at ih
        exact br_f (fun z => e2 ((tc_nz_nI (by omega) (by omega)).mp z)) (nm_r (nI_1 i) ih)
    · rw [if_neg (fun z => e z.1)] at ih
      exact br_f (fun z => e ((tc_eq3 (by omega)).mp z)) (nm_r (nI_1 i) ih)
theorem tx_ce14 {hA oA cA bA sA qA pA hQ lQ wA mj mt mb mw ms mc mo md : Nat → Int32} (hc : tc_CF C B T S) (hb : b < B) (hW : tc_W0 C B T S K k m) (hN : tc_XN C B T k hA oA cA bA sA wA) (hM : tc_XM S T k m mj mt mb mw ms mc mo md)
    (hp : post (nI (tc_s2 T b (k b).1 m (tc_s1 T (k b).1 (C + 1)) S))) : ∀ f i, i + f = C + 1 → wX_census_14 post (nI b) (nI C) (nI B) (nI T) (nI S) hA oA cA bA sA qA pA hQ lQ wA mj mt mb mw ms mc mo md (f + 1) (nI (tc_s1 T (k b).1 i)) (nI i)
  | 0, i, h => by
    have hc' := hc
    obtain ⟨c1, c2, b1, b2, t1, t2, s1, s2⟩ := hc
    have e : i = C + 1 := by omega
    subst e
    exact br_t (nI_lt (by omega) (by omega)) ⟨S + 1, tx_ce48 hc' hb hW hM hp S 0 (by omega)⟩
  | f + 1, i, h => by
    have hc' := hc
    obtain ⟨c1, c2, b1, b2, t1, t2, s1, s2⟩ := hc
    have ih : wX_census_14 post (nI b) (nI C) (nI B) (nI T) (nI S) hA oA cA bA sA qA pA hQ lQ wA mj mt mb mw ms mc mo md (f + 1) (nI (tc_s1 T (k b).1 (i + 1))) (nI (i + 1)) := tx_ce14 hc' hb hW hN hM hp f (i + 1) (by omega)
    simp only [tc_s1] at ih
    refine br_f (nI_nlt (by omega) (by omega)) ?_
    have g := ((hN b hb).2 i (by omega)).1
    simp (disch := omega) only [wpX_cell, tc_c5, tc_vin, tc_cl, true_and, g, nI_add, nI_1, forall_eq]
    exact ih
theorem ty_ce43 {pA cA bA sA wA mj mt mb mw ms md qb qc qv : Nat → Int32} (hc : tc_CF C B T S) (hb : b < B) (hW : tc_W0 C B T S K k m) (hR : tc_RY C B T S k m L (nI C, nI B, nI T, nI S, nI L.length, pA, cA, bA, sA, wA, mj, mt, mb, mw, ms, md, qb, qc, qv)) (hp : post (nI (tc_s2 T b (k b).1 m x S))) : ∀ f i, i + f = S →
    wY_census_43 post (nI b) (nI C) (nI B) (nI T) (nI S) (nI L.length) pA cA bA sA wA mj mt mb mw ms md qb qc qv (f + 1) (nI (tc_s2 T b (k b).1 m x i)) (nI i)
  | 0, i, h => by
    obtain ⟨c1, c2, b1, b2, t1, t2, s1, s2⟩ := hc
    have e : i = S := by omega
    subst e
    exact br_t (nI_le (by omega) (by omega)) hp
  | f + 1, i, h => by
    have hc' := hc
    obtain ⟨c1, c2, b1, b2, t1, t2, s1, s2⟩ := hc
    have hk5 := tc_kd5 hW i (by omega)
    have hw := hW.2 i (by omega)
    have ih : wY_census_43 post (nI b) (nI C) (nI B) (nI T) (nI S) (nI L.length) pA cA bA sA wA mj mt mb mw ms md qb qc qv (f + 1) (nI (tc_s2 T b (k b).1 m x (i + 1))) (nI (i + 1)) := ty_ce43 hc' hb hW hR hp f (i + 1) (by omega)
    simp only [tc_s2] at ih
    have hR' := hR
    obtain ⟨_, _, _, _, _, hN, hM, hQ⟩ := hR'
    have g := hM i (by omega)
    refine br_f (nI_ge (by omega) (by omega)) ⟨tc_vin (by omega) (by omega), ?_⟩
    rw [tc_cl (by omega), g.1]
    by_cases e : (m i).1 = 3
    · refine br_t ((tc_eq3 (by omega)).mpr e) ⟨tc_vin (by omega) (by omega), ?_⟩
      have hbk : (m i).2.2.1 < B := by
        revert hw e
        rcases m i with ⟨a, d, bb, y, st, v⟩
        intro hw e
        rcases hw with hw | hw
        · rw [hw] at e; exact absurd e (by decide)
        · exact hw.1
      rw [(g.2 (by omega)).2.1]
      by_cases e2 : (m i).2.2.1 = b
      · rw [if_pos ⟨e, e2⟩] at ih
        refine br_t (by rw [e2]) ?_
        rw [tc_8p]
        refine ty_tokensAt hc' hb (by omega) (tc_W_p hc' hW hb) hR ?_
        exact nm_r (nI_add _ _) (nm_r (nI_1 i) ih)
      · rw [if_neg (fun z => e2 z.2)] at ih
        exact br_f (fun z => e2 ((tc_eq (by omega) (by omega)).mp z)) (nm_r (nI_1 i) ih)
    · rw [if_neg (fun z => e z.1)] at ih
      exact br_f (fun z => e ((tc_eq3 (by omega)).mp z)) (nm_r (nI_1 i) ih)
theorem ty_ce18 {pA cA bA sA wA mj mt mb mw ms md qb qc qv : Nat → Int32} (hc : tc_CF C B T S) (hb : b < B) (hW : tc_W0 C B T S K k m) (hR : tc_RY C B T S k m L (nI C, nI B, nI T, nI S, nI L.length, pA, cA, bA, sA, wA, mj, mt, mb, mw, ms, md, qb, qc, qv))
    (hp : post (nI (tc_s2 T b (k b).1 m (tc_s1 T (k b).1 (C + 1)) S))) : ∀ f i, i + f = C + 1 → wY_census_18 post (nI b) (nI C) (nI B) (nI T) (nI S) (nI L.length) pA cA bA sA wA mj mt mb mw ms md qb qc qv (f + 1) (nI (tc_s1 T (k b).1 i)) (nI i)
  | 0, i, h => by
    have hc' := hc
    obtain ⟨c1, c2, b1, b2, t1, t2, s1, s2⟩ := hc
    have e : i = C + 1 := by omega
    subst e
    exact br_t (nI_lt (by omega) (by omega)) ⟨S + 1, ty_ce43 hc' hb hW hR hp S 0 (by omega)⟩
  | f + 1, i, h => by
    have hc' := hc
    obtain ⟨c1, c2, b1, b2, t1, t2, s1, s2⟩ := hc
    have ih : wY_census_18 post (nI b) (nI C) (nI B) (nI T) (nI S) (nI L.length) pA cA bA sA wA mj mt mb mw ms md qb qc qv (f + 1) (nI (tc_s1 T (k b).1 (i + 1))) (nI (i + 1)) := ty_ce18 hc' hb hW hR hp f (i + 1) (by omega)
    simp only [tc_s1] at ih
    refine br_f (nI_nlt (by omega) (by omega)) (ty_tokensAt hc' hb (by omega) (tc_W_p hc' hW hb) hR ?_)
    exact nm_r (nI_add _ _) (nm_r (nI_1 i) ih)
/-! places in the queue -/
theorem tc_ct_sh (f : Nat → Nat) (x : Nat) : ∀ n, tc_ct f x (n + 1) = (if f 0 = x then 1 else 0) + tc_ct (fun i => f (i + 1)) x n
  | 0 => by simp only [tc_ct]; omega
  | n + 1 => by
    rw [tc_ct, tc_ct_sh f x n, tc_ct]
    omega
theorem tc_en_qp (b n : Nat) : ∀ (L : tc_QL) (i j : Nat), i + L.length < 9999 → (tc_en b n L i = 9999 ∧ tc_qp n (tc_qs b L) j = 0) ∨
    ∃ e w, tc_en b n L i = i + e ∧ e < L.length ∧ L[e]? = some (b, n, w) ∧ tc_qp n (tc_qs b L) j = j + tc_ct (tc_lb L) b (e + 1) ∧ 0 < tc_ct (tc_lb L) b (e + 1)
  | [], i, j, _ => Or.inl ⟨rfl, rfl⟩
  | x :: L, i, j, hl => by
    have hl' : i + (L.length + 1) < 9999 := hl
    have e0 : tc_lb (x :: L) 0 = x.1 := rfl
    have e1 : (fun i => tc_lb (x :: L) (i + 1)) = tc_lb L := by
      funext i
      simp only [tc_lb, List.getElem?_cons_succ]
    rw [tc_qs_cons]
    simp only [tc_en]
    by_cases hb : x.1 = b
    · rw [if_pos hb]
      by_cases hn : x.2.1 = n
      · rw [if_pos ⟨hb, hn⟩]
        refine Or.inr ⟨0, x.2.2, rfl, by simp, ?_, ?_, ?_⟩
        · rw [← hb, ← hn]; rfl
        · simp only [tc_qp]
          rw [if_pos hn, tc_ct_sh, e0, if_pos hb]; rfl
        · rw [tc_ct_sh, e0, if_pos hb]; omega
      · rw [if_neg (fun z => hn z.2)]
        simp only [tc_qp]
        rw [if_neg hn]
        rcases tc_en_qp b n L (i + 1) (j + 1) (by omega) with h | ⟨e, w, h1, h2, h3, h4, h5⟩
        · exact Or.inl h
        · refine Or.inr ⟨e + 1, w, by omega, by simp only [List.length_cons]; omega, by rw [List.getElem?_cons_succ]; exact h3, ?_, ?_⟩
          · rw [h4, tc_ct_sh (tc_lb (x :: L)), e0, if_pos hb, e1]; omega
          · rw [tc_ct_sh (tc_lb (x :: L)), e0, if_pos hb, e1]; omega
    · rw [if_neg hb, if_neg (fun z => hb z.1)]
      rcases tc_en_qp b n L (i + 1) j (by omega) with h | ⟨e, w, h1, h2, h3, h4, h5⟩
      · exact Or.inl h
      · refine Or.inr ⟨e + 1, w, by omega, by simp only [List.length_cons]; omega, by rw [List.getElem?_cons_succ]; exact h3, ?_, ?_⟩
        · rw [h4, tc_ct_sh (tc_lb (x :: L)), e0, if_neg hb, e1]; omega
        · rw [tc_ct_sh (tc_lb (x :: L)), e0, if_neg hb, e1]; omega
theorem ty_lk57 {pA cA bA sA wA mj mt mb mw ms md qb qc qv : Nat → Int32} {x1 x3 x4 : Int32} {e : Nat} (hc : tc_CF C B T S) (hb : b < B) (hL : tc_LO C B L) (he : e < L.length) (hQ : tc_YQ L qb qc qv)
    (H : wY_look_57 post x1 (nI b) x3 x4 (nI e) (nI C) (nI B) (nI T) (nI S) (nI L.length) pA cA bA sA wA mj mt mb mw ms md qb qc qv 1 (nI (tc_ct (tc_lb L) b (e + 1))) (nI (e + 1))) : ∀ f i, i + f = e + 1 → wY_look_57 post x1 (nI b) x3 x4 (nI e) (nI C) (nI B) (nI T) (nI S) (nI L.length) pA cA bA sA wA mj mt mb mw ms md qb qc qv (f + 1) (nI (tc_ct (tc_lb L) b i)) (nI i)
  | 0, i, h => by
    have : i = e + 1 := by omega
    subst this
    exact H
  | f + 1, i, h => by
    have hc' := hc
    obtain ⟨c1, c2, b1, b2, t1, t2, s1, s2⟩ := hc
    have hl := tc_LO_len c2 b2 hL
    have ih : wY_look_57 post x1 (nI b) x3 x4 (nI e) (nI C) (nI B) (nI T) (nI S) (nI L.length) pA cA bA sA wA mj mt mb mw ms md qb qc qv (f + 1) (nI (tc_ct (tc_lb L) b (i + 1))) (nI (i + 1)) := ty_lk57 hc' hb hL he hQ H f (i + 1) (by omega)
    obtain ⟨xx, hx⟩ : ∃ xx, L[i]? = some xx := ⟨_, List.getElem?_eq_getElem (by omega)⟩
    have hx1 := (hL.1 xx (List.mem_of_getElem? hx)).1
    have elb : tc_lb L i = xx.1 := by simp only [tc_lb, hx, Option.getD_some]
    refine br_f (nI_nlt (by omega) (by omega)) ⟨tc_vin (by omega) (by omega), ?_⟩
    rw [tc_cl (by omega), (hQ i xx hx).1]
    by_cases z : xx.1 = b
    · rw [tc_ct_t (by rw [elb]; exact z)] at ih
      exact br_t (by rw [z]) (nm_r (nI_1 _) (nm_r (nI_1 i) ih))
    · rw [tc_ct_n (by rw [elb]; exact z)] at ih
      exact br_f (fun q => z ((tc_eq (by omega) (by omega)).mp q)) (nm_r (nI_1 i) ih)
end
theorem i_vc_census {k : Nat} {u : SX} {v : SY} (I : i_Rel k u v) (hk : k + 4 ≤ 2052) (v1 : Int32) : wpX_census (fun r => wpY_census (fun r' => r' = r ∧ i_Rel (k + 4) u v) v v1) u v1 := by
  have J := i_up I
  obtain ⟨C, B, T, S, q, m, L, ⟨h1, h2, h3, h4⟩, hX, hY⟩ := I
  have h1' := h1
  obtain ⟨c1, c2, b1, b2, t1, t2, s1, s2⟩ := h1'
  generalize hJ : i_Rel (k + 4) u v = J' at J ⊢
  clear hJ
  rcases u with ⟨fc, fb, ft, fs, hA, oA, cA, bA, sA, qA, pA, hQ, lQ, wA, mj, mt, mb, mw, ms, mc, mo, md⟩
  rcases v with ⟨gc, gb, gt, gs, ge, zp, zc, zb, zs, zw, zk, zt, zm, zo, za, zd, zq, zr, zv⟩
  have hX' := hX
  have hY' := hY
  obtain ⟨rfl, rfl, rfl, rfl, hN, hQ', hM⟩ := hX'
  obtain ⟨rfl, rfl, rfl, rfl, rfl, hN', hM', hQ''⟩ := hY'
  unfold wpX_census
  dsimp only
  rcases tc_blk h1 v1 with h | ⟨b, hb, rfl⟩
  · refine tx_isB0 h hX ?_
    refine br_t rfl ?_
    by_cases z : v1 < 0
    · exact br_t z ⟨rfl, J⟩
    · refine br_f z (br_f ?_ ⟨rfl, J⟩)
      rcases h with h | h
      · exact absurd h z
      · exact Int32.not_lt.mpr h
  · refine tx_isB1 h1 hb hX ?_
    refine br_f (by decide) ⟨C + 1 + 1, ?_⟩
    refine tx_ce14 h1 hb h2 hN hM ?_ (C + 1) 0 (by omega)
    refine br_f (nI_pos (by omega)) (br_t (nI_lt hb (by omega)) ⟨C + 1 + 1, ?_⟩)
    exact ty_ce18 h1 hb h2 hY ⟨rfl, J⟩ (C + 1) 0 (by omega)
end
section
/-! look -/
theorem i_vc_look {k : Nat} {u : SX} {v : SY} (I : i_Rel k u v) (hk : k + 4 ≤ 2052) (v1 : Int32) (v2 : Int32) (v3 : Int32) : wpX_look (fun r => wpY_look (fun r' => r' = r ∧ i_Rel (k + 4) u v) v v1 v2 v3) u v1 v2 v3 := by
  have J := i_up I
  obtain ⟨C, B, T, S, q, m, L, ⟨h1, h2, h3, h4⟩, hX, hY⟩ := I
  have h1' := h1
  obtain ⟨c1, c2, b1, b2, t1, t2, s1, s2⟩ := h1'
  generalize hJ : i_Rel (k + 4) u v = J' at J ⊢
  clear hJ
  rcases u with ⟨fc, fb, ft, fs, hA, oA, cA, bA, sA, qA, pA, hQ, lQ, wA, mj, mt, mb, mw, ms, mc, mo, md⟩
  rcases v with ⟨gc, gb, gt, gs, ge, zp, zc, zb, zs, zw, zk, zt, zm, zo, za, zd, zq, zr, zv⟩
  have hX' := hX
  have hY' := hY
  obtain ⟨rfl, rfl, rfl, rfl, hN, hQ', hM⟩ := hX'
  obtain ⟨rfl, rfl, rfl, rfl, rfl, hN', hM', hQ''⟩ := hY'
  by_cases z1 : v1 < 0
  · exact br_t z1 (br_t z1 ⟨rfl, J⟩)
  refine br_f z1 ?_
  by_cases z2 : nI C < v1
  · exact br_t z2 (br_f z1 (br_t z2 ⟨rfl, J⟩))
  refine br_f z2 ?_
  rcases tc_blk h1 v2 with h | ⟨b, hb, rfl⟩
  · refine tx_isB0 h hX ?_
    refine br_t rfl (br_f z1 (br_f z2 ?_))
    by_cases z : v2 < 0
    · exact br_t z ⟨rfl, J⟩
    · refine br_f z (br_t ?_ ⟨rfl, J⟩)
      rcases h with h | h
      · exact absurd h z
      · exact h
  refine tx_isB1 h1 hb hX ?_
  refine br_f (by decide) ?_
  obtain ⟨n, hn', rfl⟩ := nI_of z1
  have hn : n ≤ C := by
    refine Nat.le_of_not_lt fun z => z2 (nI_lt z hn')
  have zbb : ¬ nI b < 0 := nI_pos (by omega)
  have zB : ¬ nI B ≤ nI b := nI_ge hb (by omega)
  by_cases z3 : v3 < 0
  · exact br_t z3 (br_f z1 (br_f z2 (br_f zbb (br_f zB (br_t z3 ⟨rfl, J⟩)))))
  refine br_f z3 ?_
  by_cases z4 : 6 < v3
  · exact br_t z4 (br_f z1 (br_f z2 (br_f zbb (br_f zB (br_f z3 (br_f (Int32.not_le.mpr z4) ⟨rfl, J⟩))))))
  refine br_f z4 ?_
  have z5 : v3 ≤ 6 := Int32.not_lt.mp z4
  have hl := tc_LO_len c2 b2 h3
  have hp := tc_W_p h1 h2 hb
  have hp0 := hp 0 (by omega)
  have g := (hN b hb).2 n hn
  have g' := (hN' b hb).2.2 n hn
  have p0 : zp (b * 8) = nI ((q b).1 0) := (hN' b hb).2.1 0 (by omega)
  have hqp := tc_en_qp b n L 0 0 (by omega)
  -- what Y asks at the end of its loop
  have YY : ∀ post : Int32 → Prop, (∀ (x5 : Int32), (x5 = tc_mI (tc_en b n L 0)) → (v3 = 0 → wpY_tokensAt (fun r_42 => post r_42) (nI C, nI B, nI T, nI S, nI L.length, zp, zc, zb, zs, zw, zk, zt, zm, zo, za, zd, zq, zr, zv) (nI n) (nI b)) ∧ (¬ v3 = 0 → (v3 = 1 → vp_in (nI b * 8) 32 ∧ (zp (nI b * 8).toNatClampNeg = nI n → post 1) ∧ (¬ zp (nI b * 8).toNatClampNeg = nI n → post 0)) ∧
      (¬ v3 = 1 → (v3 = 2 → vp_in (nI n * 4 + nI b) 20 ∧ post (zc (nI n * 4 + nI b).toNatClampNeg)) ∧ (¬ v3 = 2 → (v3 = 3 → vp_in (nI n * 4 + nI b) 20 ∧ post (zb (nI n * 4 + nI b).toNatClampNeg)) ∧ (¬ v3 = 3 → (v3 = 4 → vp_in (nI n * 4 + nI b) 20 ∧ post (zs (nI n * 4 + nI b).toNatClampNeg)) ∧
      (¬ v3 = 4 → (v3 = 5 → post (nI (tc_qp n (tc_qs b L) 0))) ∧ (¬ v3 = 5 → (0 ≤ x5 → vp_in x5 16 ∧ post (zv x5.toNatClampNeg)) ∧ (¬ 0 ≤ x5 → post (-2))))))))) → wpY_look post (nI C, nI B, nI T, nI S, nI L.length, zp, zc, zb, zs, zw, zk, zt, zm, zo, za, zd, zq, zr, zv) (nI n) (nI b) v3 := by
    intro post hp'
    have hp' := hp' _ rfl
    refine br_f z1 (br_f z2 (br_f zbb (br_f zB (br_f z3 (br_t z5 (nm_e ?_))))))
    refine ty_entry h1 hb hn h3 hY ?_
    rcases hqp with ⟨h5, h6⟩ | ⟨e, w, h5, h6, h7, h8, h9⟩
    · rw [h5, tc_mIN] at hp' ⊢
      rw [h6] at hp'
      exact ⟨1, br_t (by decide) hp'⟩
    · rw [h5, Nat.zero_add, tc_mIl (by omega)] at hp' ⊢
      rw [h8, Nat.zero_add] at hp'
      exact ⟨e + 1 + 1, ty_lk57 h1 hb h3 h6 hQ'' (br_t (nI_lt (by omega) (by omega)) hp') (e + 1) 0 (by omega)⟩
  simp (disch := omega) only [wpX_cell, tc_c5, tc_vin, tc_cl, true_and, g.1, g.2.1, g.2.2.1, g.2.2.2.1, g.2.2.2.2]
  simp (disch := omega) only [tc_m8, tc_c4, tc_vin, tc_cl, true_and, g'.1, g'.2.1, g'.2.2, p0, tc_eq] at YY
  refine br_c (fun p0 => YY _ (fun x5 _ => br_t p0 (ty_tokensAt h1 hb (by omega) hp hY ⟨rfl, J⟩))) (fun p0 => ?_)
  refine br_c (fun p1 => YY _ (fun x5 _ => br_f p0 (br_t p1 (br_c (fun z => ⟨?_, J⟩) (fun z => ⟨?_, J⟩))))) (fun p1 => ?_)
  · rw [if_pos z]
  · rw [if_neg z]
  refine br_c (fun p2 => YY _ (fun x5 _ => br_f p0 (br_f p1 (br_t p2 ⟨rfl, J⟩)))) (fun p2 => ?_)
  refine br_c (fun p3 => YY _ (fun x5 _ => br_f p0 (br_f p1 (br_f p2 (br_t p3 ⟨rfl, J⟩))))) (fun p3 => ?_)
  refine br_c (fun p4 => YY _ (fun x5 _ => br_f p0 (br_f p1 (br_f p2 (br_f p3 (br_t p4 ⟨rfl, J⟩)))))) (fun p4 => ?_)
  refine br_c (fun p5 => ?_) (fun p5 => br_c (fun p6 => ?_) (fun _ => trivial))
  · refine tx_placeOf h1 hb hn h3 hX ?_
    exact YY _ (fun x5 _ => br_f p0 (br_f p1 (br_f p2 (br_f p3 (br_f p4 (br_t p5 ⟨rfl, J⟩))))))
  · unfold wpX_pendingOf
    dsimp only
    refine tx_placeOf h1 hb hn h3 hX ?_
    rcases hqp with ⟨h5, h6⟩ | ⟨e, w, h5, h6, h7, h8, h9⟩
    · rw [h6]
      refine br_t rfl ?_
      refine YY _ (fun x5 hx => br_f p0 (br_f p1 (br_f p2 (br_f p3 (br_f p4 (br_f p5 (br_f ?_ ⟨rfl, J⟩)))))))
      rw [hx, h5, tc_mIN]; decide
    · have hL' := h3.1 _ (List.mem_of_getElem? h7)
      simp only at hL'
      have hct := tc_ct_le (tc_lb L) b (e + 1)
      refine br_f ?_ ?_
      · intro z
        have := (tc_eq0 (by omega)).mp z
        omega
      · rw [tc_c4]
        refine ⟨tc_vin (by omega) (by omega), ?_⟩
        rw [tc_cl (by omega)]
        have hm : (b, n, w) ∈ tc_qs b L := tc_qs_mem.mpr ⟨List.mem_of_getElem? h7, rfl⟩
        obtain ⟨i, hi⟩ := List.mem_iff_getElem?.mp hm
        obtain ⟨h', a1, a2, a3, a4⟩ := hQ' b hb
        have a5 : pA (b * 4 + n) = w := (a4 i _ hi).2
        rw [a5]
        refine YY _ (fun x5 hx => br_f p0 (br_f p1 (br_f p2 (br_f p3 (br_f p4 (br_f p5 ?_))))))
        rw [hx, h5, Nat.zero_add, tc_mIl (by omega)]
        refine br_t (nI_pos' (by omega)) ⟨tc_vin (by omega) (by omega), ?_, J⟩
        rw [tc_cl (by omega)]
        exact (hQ'' e _ h7).2.2
end
section
/-! persist, finish -/
theorem tc_en_none {b n : Nat} : ∀ (L : tc_QL) (i : Nat), i + L.length < 9999 → tc_en b n L i = 9999 → ∀ x, x ∈ L → x.1 = b → x.2.1 ≠ n
  | [], _, _, _, x, hx, _ => by simp at hx
  | z :: L, i, hl, h, x, hx, hb => by
    have hl' : i + (L.length + 1) < 9999 := hl
    simp only [tc_en] at h
    by_cases e : z.1 = b ∧ z.2.1 = n
    · rw [if_pos e] at h; omega
    · rw [if_neg e] at h
      rcases List.mem_cons.mp hx with q | q
      · subst q; exact fun r => e ⟨hb, r⟩
      · exact tc_en_none L (i + 1) (by omega) h x q hb
theorem tc_en_rm {b n : Nat} (hn : n ≠ 9999) : ∀ (L : tc_QL) (i : Nat), tc_hd b L = n → ∃ e w, tc_en b n L i = i + e ∧ e < L.length ∧ L[e]? = some (b, n, w) ∧ (∃ l, tc_qs b L = (b, n, w) :: l) ∧
    (∀ j, (tc_rm b L)[j]? = if j < e then L[j]? else L[j + 1]?) ∧ (tc_rm b L).length + 1 = L.length
  | [], i, h => absurd h.symm hn
  | x :: L, i, h => by
    rw [tc_qs_cons]
    simp only [tc_hd] at h
    simp only [tc_en, tc_rm]
    by_cases hb : x.1 = b
    · rw [if_pos hb] at h
      rw [if_pos hb, if_pos hb, if_pos ⟨hb, h⟩]
      have hx : x = (b, n, x.2.2) := by rw [← hb, ← h]
      refine ⟨0, x.2.2, rfl, by simp, by rw [← hx]; rfl, ⟨_, by rw [← hx]⟩, fun j => ?_, rfl⟩
      rw [if_neg (by omega), List.getElem?_cons_succ]
    · rw [if_neg hb] at h
      rw [if_neg hb, if_neg hb, if_neg (fun z => hb z.1)]
      obtain ⟨e, w, h1, h2, h3, h4, h5, h6⟩ := tc_en_rm hn L (i + 1) h
      refine ⟨e + 1, w, by omega, by simp only [List.length_cons]; omega, by rw [List.getElem?_cons_succ]; exact h3, h4, fun j => ?_, by simp only [List.length_cons]; omega⟩
      cases j with
      | zero => rw [if_pos (by omega)]; rfl
      | succ j =>
        rw [List.getElem?_cons_succ, h5]
        by_cases q : j < e
        · rw [if_pos q, if_pos (by omega), List.getElem?_cons_succ]
        · rw [if_neg q, if_neg (by omega), List.getElem?_cons_succ]
section
variable {C B T S K : Nat} {k : Nat → tc_BS} {m : Nat → tc_MG} {L : tc_QL} {s b n d h y st x : Nat} {w : Int32}
theorem ty_wrN {pA cA bA sA wA : Nat → Int32} (hB : B ≤ 4) (hb : b < B) (hN : tc_YN C B T k pA cA bA sA wA) :
    tc_YN C B T (tc_f1 k b ((k b).1, tc_f1 (k b).2.1 n w, (k b).2.2.1, (k b).2.2.2.1, w)) pA (upd cA (n * 4 + b) w) bA sA (upd wA b w) := by
  refine tc_YN_b hN (pk_us (k := b)) (hN b hb).2.1 (fun n' hn' => ?_) (fun b' hb' e' => ⟨pk_un e', fun _ _ => rfl, fun n' hn' => ⟨tc_vx e' (by omega) (by omega), rfl, rfl⟩⟩)
  have g := (hN b hb).2.2 n' hn'
  refine ⟨?_, g.2.1, g.2.2⟩
  show _ = tc_f1 (k b).2.1 n _ n'
  rw [tc_vi]
  by_cases e' : n' = n
  · rw [if_pos e', e', tc_f1s]
  · rw [if_neg e', tc_f1n e']; exact g.1
theorem ty_fin94 {post : Int32 → SY → Prop} {pA cA bA sA wA mj mt mb mw ms md : Nat → Int32} {e : Nat} {L' : tc_QL} (hl : L.length ≤ 16) (hr : ∀ j, L'[j]? = if j < e then L[j]? else L[j + 1]?) (hr2 : L'.length + 1 = L.length)
    (H : ∀ qb' qc' qv', tc_YQ L' qb' qc' qv' → wpY_announce (fun u => match u with | (f_caches, f_blocks, f_tokens, f_slots, f_entries, zp, zc, zb, zs, zw, zk, zt, zm, zo, za, zd, zq, zr, zv) => post 0 (f_caches, f_blocks, f_tokens, f_slots, f_entries, zp, zc, zb, zs, zw, zk, zt, zm, zo, za, zd, zq, zr, zv)) (nI C, nI B, nI T, nI S, nI L'.length, pA, cA, bA, sA, wA, mj, mt, mb, mw, ms, md, qb', qc', qv') (nI b)) :
    ∀ f i qb' qc' qv', i + 1 + f = L.length → e ≤ i → (∀ j x, j < i → L'[j]? = some x → qb' j = nI x.1 ∧ qc' j = nI x.2.1 ∧ qv' j = x.2.2) → (∀ j x, i < j → L[j]? = some x → qb' j = nI x.1 ∧ qc' j = nI x.2.1 ∧ qv' j = x.2.2) →
    wY_finish_94 post (nI b) (nI C) (nI B) (nI T) (nI S) (nI L.length) (f + 1) (nI i) pA cA bA sA wA mj mt mb mw ms md qb' qc' qv'
  | 0, i, qb', qc', qv', hi, he, g1, g2 => by
    refine br_t ?_ ?_
    · rw [nI_1]; exact nI_le (by omega) (by omega)
    · refine nm_r (tc_sub1 (n := L.length) (by omega)) ?_
      have : L.length - 1 = L'.length := by omega
      rw [this]
      refine H qb' qc' qv' (fun j x hx => g1 j x ?_ hx)
      have : j < L'.length := by
        refine Nat.lt_of_not_le fun z => ?_
        rw [List.getElem?_eq_none z] at hx
        exact absurd hx (by simp)
      omega
  | f + 1, i, qb', qc', qv', hi, he, g1, g2 => by
    obtain ⟨x, hx⟩ : ∃ x, L[i + 1]? = some x := ⟨_, List.getElem?_eq_getElem (by omega)⟩
    obtain ⟨x1, x2, x3⟩ := g2 (i + 1) x (by omega) hx
    refine br_f ?_ ?_
    · rw [nI_1]; exact nI_ge (by omega) (by omega)
    · rw [nI_1, tc_cl (by omega), tc_cl (by omega), x1, x2, x3]
      refine ⟨tc_vin (by omega) (by omega), tc_vin (by omega) (by omega), nm_e ⟨tc_vin (by omega) (by omega), tc_vin (by omega) (by omega), nm_e ⟨tc_vin (by omega) (by omega), tc_vin (by omega) (by omega), nm_e (nm_e ?_)⟩⟩⟩
      refine ty_fin94 hl hr hr2 H f (i + 1) _ _ _ (by omega) (by omega) (fun j y hj hy => ?_) (fun j y hj hy => ?_)
      · by_cases ej : j = i
        · subst ej
          rw [hr j, if_neg (by omega), hx] at hy
          have hy := Option.some.inj hy
          rw [pk_us, pk_us, pk_us, ← hy]
          exact ⟨rfl, rfl, rfl⟩
        · rw [pk_un ej, pk_un ej, pk_un ej]
          exact g1 j y (by omega) hy
      · have ej : j ≠ i := by omega
        rw [pk_un ej, pk_un ej, pk_un ej]
        exact g2 j y (by omega) hy
end
theorem tc_hd_app {b' : Nat} {L : tc_QL} {x : Nat × Nat × Int32} (h : x.1 ≠ b' ∨ tc_qs b' L ≠ []) : tc_hd b' (L ++ [x]) = tc_hd b' L := by
  rw [tc_hd_qs, tc_hd_qs, tc_qs_app]
  rcases h with h | h
  · rw [if_neg h, List.append_nil]
  · rcases e : tc_qs b' L with _ | ⟨z, l⟩
    · exact absurd e h
    · rfl
theorem tc_hd_9 {C B b : Nat} {L : tc_QL} (hC : C ≤ 4) (hL : tc_LO C B L) : tc_hd b L = 9999 ↔ tc_qs b L = [] := by
  rw [tc_hd_qs]
  rcases e : tc_qs b L with _ | ⟨z, l⟩
  · exact ⟨fun _ => rfl, fun _ => rfl⟩
  · refine ⟨fun h => ?_, fun h => absurd h (by simp)⟩
    have : z ∈ tc_qs b L := by rw [e]; exact List.mem_cons_self
    have h1 := (hL.1 z (tc_qs_mem.mp this).1).2
    have h2 : z.2.1 = 9999 := h
    omega
theorem i_vc_persist {k : Nat} {u : SX} {v : SY} (I : i_Rel k u v) (hk : k + 4 ≤ 2052) (v1 : Int32) (v2 : Int32) (v3 : Int32) : wpX_persist (fun r u' => wpY_persist (fun r' v' => r' = r ∧ i_Rel (k + 4) u' v') v v1 v2 v3) u v1 v2 v3 := by
  have J := i_up I
  obtain ⟨C, B, T, S, q, m, L, ⟨h1, h2, h3, h4⟩, hX, hY⟩ := I
  have A := tc_arg h1 hX hY v1 v2
  rcases u with ⟨fc, fb, ft, fs, hA, oA, cA, bA, sA, qA, pA, hQ, lQ, wA, mj, mt, mb, mw, ms, mc, mo, md⟩
  rcases v with ⟨gc, gb, gt, gs, ge, zp, zc, zb, zs, zw, zk, zt, zm, zo, za, zd, zq, zr, zv⟩
  have h1' := h1
  obtain ⟨c1, c2, b1, b2, t1, t2, s1, s2⟩ := h1'
  have hX' := hX
  have hY' := hY
  obtain ⟨rfl, rfl, rfl, rfl, hN, hQ', hM⟩ := hX'
  obtain ⟨rfl, rfl, rfl, rfl, rfl, hN', hM', hQ''⟩ := hY'
  have hfr : tc_fr S m ≤ S := tc_ct_le (tc_kk m) 0 S
  have hl := tc_LO_len c2 b2 h3
  unfold wpX_persist wpY_persist
  dsimp only
  rcases A with ⟨a1, a2⟩ | ⟨n, b, hn, hb, rfl, rfl, a1, a2⟩
  · refine a1 _ ?_
    refine br_t rfl ?_
    refine a2 _ ?_
    exact br_f (by decide) ⟨rfl, J⟩
  refine a1 _ ?_
  refine br_f (by decide) ?_
  refine tx_placeOf h1 hb (by omega) h3 hX ?_
  obtain ⟨hq, y1, y2, y3, y4⟩ := hQ' b hb
  have hql := tc_qs_len c2 h3 b
  rcases tc_en_qp b n L 0 0 (by omega) with ⟨h5, h6⟩ | ⟨e, w, h5, h6, h7, h8, h9⟩
  · -- not in the queue yet
    rw [h6]
    refine br_t rfl ⟨tc_vin (by omega) (by omega), ?_⟩
    rw [tc_cl (by omega), y3]
    have hnew := tc_en_none L 0 (by omega) h5
    have hL' : tc_LO C B (L ++ [(b, n, v3 &&& 65535)]) := tc_LO_add c2 h3 hb hn hnew
    have hl' := tc_LO_len c2 b2 hL'
    rw [List.length_append] at hl'
    have hl' : L.length + 1 ≤ 16 := hl'
    have hQa : tc_YQ (L ++ [(b, n, v3 &&& 65535)]) (upd zq L.length (nI b)) (upd zr L.length (nI n)) (upd zv L.length (v3 &&& 65535)) := by
      intro i x hx
      by_cases hi : i < L.length
      · rw [List.getElem?_append_left hi] at hx
        rw [pk_un (by omega), pk_un (by omega), pk_un (by omega)]
        exact hQ'' i x hx
      · have hi' : i = L.length := by
          refine Classical.byContradiction fun z => ?_
          rw [List.getElem?_append_right (by omega), List.getElem?_eq_none] at hx
          · exact absurd hx (by simp)
          · show 1 ≤ _
            omega
        subst hi'
        rw [List.getElem?_append_right (Nat.le_refl _), Nat.sub_self] at hx
        have hx : (b, n, v3 &&& 65535) = x := Option.some.inj hx
        rw [← hx, pk_us, pk_us, pk_us]
        exact ⟨rfl, rfl, rfl⟩
    have hYa : tc_RY C B T S q m (L ++ [(b, n, v3 &&& 65535)]) (nI C, nI B, nI T, nI S, nI (L.length + 1), zp, zc, zb, zs, zw, zk, zt, zm, zo, za, zd, upd zq L.length (nI b), upd zr L.length (nI n), upd zv L.length (v3 &&& 65535)) :=
      ⟨rfl, rfl, rfl, rfl, by rw [List.length_append]; rfl, hN', hM', hQa⟩
    by_cases hf0 : tc_qs b L = []
    · -- the first
      have hd9 : tc_hd b L = 9999 := (tc_hd_9 c2 h3).mpr hf0
      rw [hf0]
      refine br_t rfl ?_
      unfold wX_persist_37
      refine br_f (by decide) ?_
      refine tx_free h1 (tc_kd5 h2) hX ?_
      rw [nI_1]
      by_cases hf : C + 1 ≤ tc_fr S m
      · refine br_t (nI_le hf (by omega)) ?_
        unfold wX_persist_60
        refine tx_joinQueue h1 hb hn hL' hX ?_
        refine tc_RXi ?_
        clear hN hQ' hM hX y2 y3 y4 y1 a1 J
        intro hA oA cA bA sA qA pA hQ lQ wA mj mt mb mw ms mc mo md hN hQ' hM
        refine br_f (by decide) ?_
        refine tx_announce h1 hb hL' (K := k) (by omega) h2 hf ⟨rfl, rfl, rfl, rfl, hN, hQ', hM⟩ (fun u' hu => ?_)
        refine a2 _ ?_
        refine br_t rfl ?_
        refine ty_entry h1 hb (by omega) h3 hY ?_
        rw [h5, tc_mIN]
        refine br_t (by decide) ?_
        refine ty_head h1 hb h3 hY ?_
        rw [hd9, tc_nzN]
        refine br_t rfl ?_
        unfold wY_persist_38
        refine br_f (by decide) ?_
        refine ty_free h1 (tc_kd5 h2) hY ?_
        rw [nI_1]
        refine br_t (nI_le hf (by omega)) ?_
        unfold wY_persist_61
        rw [tc_cl (by omega)]
        refine br_t (nI_lt (b := 16) (by omega) (by omega)) ⟨tc_vin (by omega) (by omega), nm_e ⟨tc_vin (by omega) (by omega), nm_e ⟨tc_vin (by omega) (by omega), nm_e (nm_r (nI_1 _) (br_f (by decide) ?_))⟩⟩⟩
        refine ty_announce h1 hb hL' (K := k) (by omega) h2 hf hYa (fun v' hv => ?_)
        obtain ⟨w1, w2, w3, w4⟩ := tc_ann_W (h := tc_hd b (L ++ [(b, n, v3 &&& 65535)])) c2 hb (tc_hd_ok hL' b) hf h2
        refine ⟨rfl, C, B, T, S, _, _, _, ⟨h1, tc_W0_K (by omega) w1, hL', fun b' hb' => ?_⟩, hu, hv⟩
        by_cases eb : b' = b
        · subst eb; exact w2
        · rw [tc_hd_app (b' := b') (Or.inl (fun z => eb z.symm))]
          exact w3 b' _ eb (h4 b' hb')
      · refine br_f (nI_ge (by omega) (by omega)) ?_
        refine a2 _ ?_
        refine br_t rfl ?_
        refine ty_entry h1 hb (by omega) h3 hY ?_
        rw [h5, tc_mIN]
        refine br_t (by decide) ?_
        refine ty_head h1 hb h3 hY ?_
        rw [hd9, tc_nzN]
        refine br_t rfl ?_
        unfold wY_persist_38
        refine br_f (by decide) ?_
        refine ty_free h1 (tc_kd5 h2) hY ?_
        rw [nI_1]
        exact br_f (nI_ge (by omega) (by omega)) ⟨rfl, J⟩
    · -- not the first
      have hd9 : tc_hd b L ≠ 9999 := fun z => hf0 ((tc_hd_9 c2 h3).mp z)
      have hdo := tc_hd_ok h3 b
      have hpos : 0 < (tc_qs b L).length := List.length_pos_iff.mpr hf0
      refine br_f (nI_ne0 hpos (by omega)) ?_
      unfold wX_persist_37
      refine br_t rfl ?_
      unfold wX_persist_60
      refine tx_joinQueue h1 hb hn hL' hX ?_
      refine tc_RXi ?_
      clear hN hQ' hM hX y2 y3 y4 y1 a1 J
      intro hA oA cA bA sA qA pA hQ lQ wA mj mt mb mw ms mc mo md hN hQ' hM
      refine br_t rfl ?_
      refine a2 _ ?_
      refine br_t rfl ?_
      refine ty_entry h1 hb (by omega) h3 hY ?_
      rw [h5, tc_mIN]
      refine br_t (by decide) ?_
      refine ty_head h1 hb h3 hY ?_
      refine br_f (fun z => hd9 ((tc_nz_m2 (by omega)).mp z)) ?_
      unfold wY_persist_38
      refine br_t rfl ?_
      unfold wY_persist_61
      rw [tc_cl (by omega)]
      refine br_t (nI_lt (b := 16) (by omega) (by omega)) ⟨tc_vin (by omega) (by omega), nm_e ⟨tc_vin (by omega) (by omega), nm_e ⟨tc_vin (by omega) (by omega), nm_e (nm_r (nI_1 _) (br_t rfl ?_))⟩⟩⟩
      refine ⟨rfl, C, B, T, S, q, m, _, ⟨h1, tc_W0_K (by omega) h2, hL', fun b' hb' => ?_⟩, ⟨rfl, rfl, rfl, rfl, hN, hQ', hM⟩, hYa⟩
      rw [tc_hd_app (b' := b')]
      · exact h4 b' hb'
      · by_cases eb : b' = b
        · subst eb; exact Or.inr hf0
        · exact Or.inl (fun z => eb z.symm)
  · -- busy
    have hct := tc_ct_le (tc_lb L) b (e + 1)
    refine br_f ?_ ?_
    · intro z
      have := (tc_eq0 (by omega)).mp z
      omega
    · refine a2 _ ?_
      refine br_t rfl ?_
      refine ty_entry h1 hb (by omega) h3 hY ?_
      rw [h5, Nat.zero_add, tc_mIl (by omega)]
      exact br_f (nI_pos (by omega)) ⟨rfl, J⟩
end
section
/-! finish -/
def tc_wk (b n : Nat) (w : Int32) (k : Nat → tc_BS) : Nat → tc_BS := tc_f1 k b ((k b).1, tc_f1 (k b).2.1 n w, (k b).2.2.1, (k b).2.2.2.1, w)
theorem tx_icb1 {C B T S n b : Nat} {k : Nat → tc_BS} {m : Nat → tc_MG} {L : tc_QL} {u : SX} {post : Int32 → Prop} (hc : tc_CF C B T S) (hn : n < C) (hb : b < B) (hX : tc_RX C B T S k m L u) (H : post 1) : wpX_isCacheAndBlock post u (nI n) (nI b) := by
  obtain ⟨c1, c2, b1, b2, t1, t2, s1, s2⟩ := hc
  refine tc_RXe (P := fun u => wpX_isCacheAndBlock post u (nI n) (nI b)) ?_ hX
  intro hA oA cA bA sA qA pA hQ lQ wA mj mt mb mw ms mc mo md _ _ _
  exact br_f (nI_pos (by omega)) (br_f (nI_ge hn (by omega)) (br_f (nI_pos (by omega)) (br_f (nI_ge hb (by omega)) (br_f (by decide) H))))
theorem tx_finish {C B T S K n b : Nat} {k : Nat → tc_BS} {m : Nat → tc_MG} {L l : tc_QL} {w : Int32} {u : SX} {post : Int32 → SX → Prop} (hc : tc_CF C B T S) (hn : n < C) (hb : b < B) (hK : K + 1 < 9999) (hW : tc_W0 C B T S K k m) (hL : tc_LO C B L)
    (hq : tc_qs b L = (b, n, w) :: l) (hct : tc_ct (k b).1 n T = T) (hf : C + 1 ≤ tc_fr S m) (hX : tc_RX C B T S k m L u)
    (H : ∀ u', tc_RX C B T S (tc_ak C T S b (tc_hd b (tc_rm b L)) (tc_wk b n w k) m) (tc_am C T S b (tc_hd b (tc_rm b L)) (tc_wk b n w k) m) (tc_rm b L) u' → post 0 u') : wpX_finish post u (nI n) (nI b) := by
  have hc' := hc
  obtain ⟨c1, c2, b1, b2, t1, t2, s1, s2⟩ := hc
  have hfr : tc_fr S m ≤ S := tc_ct_le (tc_kk m) 0 S
  have hhd : tc_hd b L = n := by rw [tc_hd_qs, hq]; rfl
  have hX0 := hX
  refine tc_RXe (P := fun u => tc_RX C B T S k m L u → wpX_finish post u (nI n) (nI b)) ?_ hX hX0
  intro hA oA cA bA sA qA pA hQ lQ wA mj mt mb mw ms mc mo md hN hQ' hM hX'
  obtain ⟨hh, y1, y2, y3, y4⟩ := hQ' b hb
  have y5 : pA (b * 4 + n) = w := (y4 0 _ (by rw [hq]; rfl)).2
  unfold wpX_finish
  dsimp only
  refine tx_icb1 hc' hn hb hX' ?_
  refine br_f (by decide) ?_
  refine tx_headOf hc' hb hL hX' ?_
  rw [hhd, tc_nzl (by omega)]
  refine br_t rfl ?_
  refine tx_hasRightW hc' hb (by omega) hX' ?_
  rw [if_pos hct]
  refine br_f (by decide) ?_
  refine tx_free hc' (tc_kd5 hW) hX' ?_
  rw [nI_1]
  refine br_t (nI_le hf (by omega)) ?_
  rw [tc_c4, tc_cl (by omega), y5]
  refine ⟨tc_vin (by omega) (by omega), ?_⟩
  refine tx_write hc' hb (by omega) hX' (fun u1 h1 => ?_)
  refine tx_leaveQueue hc' hb hL (by rw [hq]; simp) h1 (fun u2 h2 => ?_)
  have W := tc_wr_W (n := n) (w := w) (show 0 < tc_ct (k b).1 n T by omega) hW
  refine tx_announce hc' hb (tc_LO_rm b hL) hK W.1 hf h2 (fun u3 h3 => ?_)
  exact H u3 h3
theorem i_vc_finish {k : Nat} {u : SX} {v : SY} (I : i_Rel k u v) (hk : k + 4 ≤ 2052) (v1 : Int32) (v2 : Int32) : wpX_finish (fun r u' => wpY_finish (fun r' v' => r' = r ∧ i_Rel (k + 4) u' v') v v1 v2) u v1 v2 := by
  have J := i_up I
  obtain ⟨C, B, T, S, q, m, L, ⟨h1, h2, h3, h4⟩, hX, hY⟩ := I
  have A := tc_arg h1 hX hY v1 v2
  have h1' := h1
  obtain ⟨c1, c2, b1, b2, t1, t2, s1, s2⟩ := h1'
  have hfr : tc_fr S m ≤ S := tc_ct_le (tc_kk m) 0 S
  have hl := tc_LO_len c2 b2 h3
  rcases A with ⟨a1, a2⟩ | ⟨n, b, hn, hb, rfl, rfl, a1, a2⟩
  · rcases u with ⟨fc, fb, ft, fs, hA, oA, cA, bA, sA, qA, pA, hQ, lQ, wA, mj, mt, mb, mw, ms, mc, mo, md⟩
    rcases v with ⟨gc, gb, gt, gs, ge, zp, zc, zb, zs, zw, zk, zt, zm, zo, za, zd, zq, zr, zv⟩
    unfold wpX_finish wpY_finish
    dsimp only
    refine a1 _ ?_
    refine br_t rfl ?_
    refine a2 _ ?_
    exact br_f (by decide) ⟨rfl, J⟩
  have hp := tc_W_p h1 h2 hb
  have hct := tc_ct_le (q b).1 n T
  have hho := tc_hd_ok h3 b
  by_cases hh : tc_hd b L = n
  · obtain ⟨e, w, e1, e2, e3, ⟨l, e4⟩, e5, e6⟩ := tc_en_rm (b := b) (n := n) (by omega) L 0 hh
    rw [Nat.zero_add] at e1
    by_cases z : tc_ct (q b).1 n T = T
    · by_cases hf : C + 1 ≤ tc_fr S m
      · -- it finishes
        refine tx_finish h1 hn hb (K := k) (by omega) h2 h3 e4 z hf hX (fun u' hu => ?_)
        rcases v with ⟨gc, gb, gt, gs, ge, zp, zc, zb, zs, zw, zk, zt, zm, zo, za, zd, zq, zr, zv⟩
        have hY' := hY
        obtain ⟨rfl, rfl, rfl, rfl, rfl, hN', hM', hQ''⟩ := hY'
        unfold wpY_finish
        dsimp only
        refine a2 _ ?_
        refine br_t rfl ?_
        refine ty_entry h1 hb (by omega) h3 hY ?_
        rw [e1, tc_mIl (by omega)]
        refine br_f (nI_pos (by omega)) ?_
        refine ty_head h1 hb h3 hY ?_
        rw [hh, tc_nzl (by omega)]
        refine br_t rfl ?_
        refine ty_tokensAt h1 hb (by omega) hp hY ?_
        refine br_t (by rw [z]) ?_
        refine ty_free h1 (tc_kd5 h2) hY ?_
        rw [nI_1]
        refine br_t (nI_le hf (by omega)) ⟨tc_vin (by omega) (by omega), ?_⟩
        rw [tc_c4, tc_cl (by omega), tc_cl (by omega), tc_cl (by omega), (hQ'' e _ e3).2.2]
        refine ⟨tc_vin (by omega) (by omega), nm_e ⟨tc_vin (by omega) (by omega), tc_vin (by omega) (by omega), nm_e ⟨L.length - 1 - e + 1, ?_⟩⟩⟩
        have W := tc_wr_W (n := n) (w := w) (show 0 < tc_ct (q b).1 n T by omega) h2
        refine ty_fin94 (L' := tc_rm b L) (e := e) hl e5 e6 (fun qb' qc' qv' hq' => ?_) (L.length - 1 - e) e _ _ _ (by omega) (Nat.le_refl e) (fun j x hj hx => ?_) (fun j x _ hx => hQ'' j x hx)
        · refine ty_announce (K := k) h1 hb (tc_LO_rm b h3) (by omega) W.1 hf ⟨rfl, rfl, rfl, rfl, rfl, ty_wrN b2 hb hN', hM', hq'⟩ (fun v' hv => ?_)
          obtain ⟨w1, w2, w3, w4⟩ := tc_ann_W (h := tc_hd b (tc_rm b L)) c2 hb (tc_hd_ok (tc_LO_rm b h3) b) hf W.1
          refine ⟨rfl, C, B, T, S, _, _, _, ⟨h1, tc_W0_K (by omega) w1, tc_LO_rm b h3, fun b' hb' => ?_⟩, hu, hv⟩
          by_cases eb : b' = b
          · subst eb; exact w2
          · rw [tc_hd_qs b', tc_qs_rmn eb, ← tc_hd_qs b']
            exact w3 b' _ eb (W.2 b' _ (h4 b' hb'))
        · rw [e5 j, if_pos hj] at hx
          exact hQ'' j x hx
      · -- full
        rcases u with ⟨fc, fb, ft, fs, hA, oA, cA, bA, sA, qA, pA, hQ, lQ, wA, mj, mt, mb, mw, ms, mc, mo, md⟩
        rcases v with ⟨gc, gb, gt, gs, ge, zp, zc, zb, zs, zw, zk, zt, zm, zo, za, zd, zq, zr, zv⟩
        have hX' := hX
        have hY' := hY
        obtain ⟨rfl, rfl, rfl, rfl, hN, hQ', hM⟩ := hX'
        obtain ⟨rfl, rfl, rfl, rfl, rfl, hN', hM', hQ''⟩ := hY'
        unfold wpX_finish wpY_finish
        dsimp only
        refine a1 _ ?_
        refine br_f (by decide) ?_
        refine tx_headOf h1 hb h3 hX ?_
        rw [hh, tc_nzl (by omega)]
        refine br_t rfl ?_
        refine tx_hasRightW h1 hb (by omega) hX ?_
        rw [if_pos z]
        refine br_f (by decide) ?_
        refine tx_free h1 (tc_kd5 h2) hX ?_
        rw [nI_1]
        refine br_f (nI_ge (by omega) (by omega)) ?_
        refine a2 _ ?_
        refine br_t rfl ?_
        refine ty_entry h1 hb (by omega) h3 hY ?_
        rw [e1, tc_mIl (by omega)]
        refine br_f (nI_pos (by omega)) ?_
        refine ty_head h1 hb h3 hY ?_
        rw [hh, tc_nzl (by omega)]
        refine br_t rfl ?_
        refine ty_tokensAt h1 hb (by omega) hp hY ?_
        refine br_t (by rw [z]) ?_
        refine ty_free h1 (tc_kd5 h2) hY ?_
        exact br_f (nI_ge (by omega) (by omega)) ⟨rfl, J⟩
    · rcases u with ⟨fc, fb, ft, fs, hA, oA, cA, bA, sA, qA, pA, hQ, lQ, wA, mj, mt, mb, mw, ms, mc, mo, md⟩
      rcases v with ⟨gc, gb, gt, gs, ge, zp, zc, zb, zs, zw, zk, zt, zm, zo, za, zd, zq, zr, zv⟩
      have hX' := hX
      have hY' := hY
      obtain ⟨rfl, rfl, rfl, rfl, hN, hQ', hM⟩ := hX'
      obtain ⟨rfl, rfl, rfl, rfl, rfl, hN', hM', hQ''⟩ := hY'
      unfold wpX_finish wpY_finish
      dsimp only
      refine a1 _ ?_
      refine br_f (by decide) ?_
      refine tx_headOf h1 hb h3 hX ?_
      rw [hh, tc_nzl (by omega)]
      refine br_t rfl ?_
      refine tx_hasRightW h1 hb (by omega) hX ?_
      rw [if_neg z]
      refine br_t rfl ?_
      refine a2 _ ?_
      refine br_t rfl ?_
      refine ty_entry h1 hb (by omega) h3 hY ?_
      rw [e1, tc_mIl (by omega)]
      refine br_f (nI_pos (by omega)) ?_
      refine ty_head h1 hb h3 hY ?_
      rw [hh, tc_nzl (by omega)]
      refine br_t rfl ?_
      refine ty_tokensAt h1 hb (by omega) hp hY ?_
      exact br_f (fun q => z ((tc_eq (by omega) (by omega)).mp q)) ⟨rfl, J⟩
  · rcases u with ⟨fc, fb, ft, fs, hA, oA, cA, bA, sA, qA, pA, hQ, lQ, wA, mj, mt, mb, mw, ms, mc, mo, md⟩
    rcases v with ⟨gc, gb, gt, gs, ge, zp, zc, zb, zs, zw, zk, zt, zm, zo, za, zd, zq, zr, zv⟩
    have hX' := hX
    have hY' := hY
    obtain ⟨rfl, rfl, rfl, rfl, hN, hQ', hM⟩ := hX'
    obtain ⟨rfl, rfl, rfl, rfl, rfl, hN', hM', hQ''⟩ := hY'
    unfold wpX_finish wpY_finish
    dsimp only
    have hne : ¬ tc_nz (tc_hd b L) = nI n := fun z => hh ((tc_nz_nI (by omega) (by omega)).mp z)
    refine a1 _ ?_
    refine br_f (by decide) ?_
    refine tx_headOf h1 hb h3 hX ?_
    refine br_f hne ?_
    refine a2 _ ?_
    refine br_t rfl ?_
    refine ty_entry h1 hb (by omega) h3 hY ?_
    rcases tc_en_qp b n L 0 0 (by omega) with ⟨h5, h6⟩ | ⟨e, w, h5, h6, h7, h8, h9⟩
    · rw [h5, tc_mIN]
      exact br_t (by decide) ⟨rfl, J⟩
    · rw [h5, Nat.zero_add, tc_mIl (by omega)]
      refine br_f (nI_pos (by omega)) ?_
      refine ty_head h1 hb h3 hY ?_
      exact br_f hne ⟨rfl, J⟩
end
section
/-! the constructors -/
def tc_q0 (C : Nat) : tc_BS := (fun _ => C, fun n => if n = C then 0 else -2, fun _ => 9999, fun _ => 0, 0)
theorem tc_clampE (x : Int32) (lo hi : Nat) (h1 : lo ≤ hi) (h2 : hi < 100) : ∃ c, lo ≤ c ∧ c ≤ hi ∧ ∀ post : Int32 → Prop, post (nI c) → ((nI lo ≤ x → ((x ≤ nI hi → post x) ∧ (¬ x ≤ nI hi → post (nI hi)))) ∧ (¬ nI lo ≤ x → post (nI lo))) := by
  by_cases a : nI lo ≤ x
  · by_cases b : x ≤ nI hi
    · have x0 : ¬ x < 0 := by
        have : (0 : Int32) ≤ nI lo := nI_pos' (by omega)
        exact Int32.not_lt.mpr (Int32.le_trans this a)
      obtain ⟨j, hj, rfl⟩ := nI_of x0
      rw [nI_leI (by omega) hj] at a
      rw [nI_leI hj (by omega)] at b
      exact ⟨j, a, b, fun post hp => br_t (nI_le a hj) (br_t (nI_le b (by omega)) hp)⟩
    · exact ⟨hi, h1, Nat.le_refl _, fun post hp => br_t a (br_f b hp)⟩
  · exact ⟨lo, Nat.le_refl _, h1, fun post hp => br_f a hp⟩
theorem tx_clamp {post : Int32 → Prop} {u : SX} {x lo hi r : Int32} (h : ∀ post : Int32 → Prop, post r → ((lo ≤ x → ((x ≤ hi → post x) ∧ (¬ x ≤ hi → post hi))) ∧ (¬ lo ≤ x → post lo))) (H : post r) : wpX_clamp post u x lo hi := by
  rcases u with ⟨fc, fb, ft, fs, hA, oA, cA, bA, sA, qA, pA, hQ, lQ, wA, mj, mt, mb, mw, ms, mc, mo, md⟩
  exact h post H
section
variable {C B T S : Nat}
theorem tx_sb2 {post : SX → Prop} {b : Nat} {hA oA cA bA sA qA pA hQ lQ wA mj mt mb mw ms mc mo md : Nat → Int32} (hc : tc_CF C B T S) (hb : b < B)
    (H : ∀ cA' bA' : Nat → Int32, (∀ n, n ≤ C → cA' (b * 5 + n) = -2 ∧ bA' (b * 5 + n) = -2) → (∀ j, j < b * 5 → cA' j = cA j ∧ bA' j = bA j) →
      post (nI C, nI B, nI T, nI S, upd hA (b * 5 + C) (nI T), upd oA (b * 5 + C) 1, upd cA' (b * 5 + C) 0, bA', sA, qA, pA, hQ, lQ, wA, mj, mt, mb, mw, ms, mc, mo, md)) :
    ∀ f i (cA' bA' : Nat → Int32), i + f = C + 1 → (∀ n, n < i → cA' (b * 5 + n) = -2 ∧ bA' (b * 5 + n) = -2) → (∀ j, j < b * 5 → cA' j = cA j ∧ bA' j = bA j) →
    wX_startBlock_2 post (nI b) (nI C) (nI B) (nI T) (nI S) (f + 1) (nI i) hA oA cA' bA' sA qA pA hQ lQ wA mj mt mb mw ms mc mo md
  | 0, i, cA', bA', h, h1, h2 => by
    obtain ⟨c1, c2, b1, b2, t1, t2, s1, s2⟩ := hc
    refine br_t (nI_lt (by omega) (by omega)) ?_
    simp (disch := omega) only [wpX_cell, tc_c5, tc_vin, tc_cl, true_and, forall_eq]
    exact H cA' bA' (fun n hn => h1 n (by omega)) h2
  | f + 1, i, cA', bA', h, h1, h2 => by
    have hc' := hc
    obtain ⟨c1, c2, b1, b2, t1, t2, s1, s2⟩ := hc
    refine br_f (nI_nlt (by omega) (by omega)) ?_
    simp (disch := omega) only [wpX_cell, tc_c5, tc_vin, tc_cl, true_and, forall_eq, nI_1]
    refine tx_sb2 hc' hb H f (i + 1) _ _ (by omega) (fun n hn => ?_) (fun j hj => ?_)
    · by_cases e : n = i
      · rw [e, pk_us, pk_us]; exact ⟨rfl, rfl⟩
      · rw [pk_un (by omega), pk_un (by omega)]; exact h1 n (by omega)
    · rw [pk_un (by omega), pk_un (by omega)]; exact h2 j hj
theorem tc_ct_q0 (hc : tc_CF C B T S) (n : Nat) : tc_ct (tc_q0 C).1 n T = if n = C then T else 0 := by
  by_cases e : n = C
  · rw [if_pos e, e]; exact tc_ct_all T (fun _ _ => rfl)
  · rw [if_neg e]; exact tc_ct_zero T (fun _ _ z => e z.symm)
theorem tx_in220 {post : SX → Prop} {hA oA cA bA sA qA pA hQ lQ wA : Nat → Int32} (hc : tc_CF C B T S) (hN : tc_XN C B T (fun _ => tc_q0 C) hA oA cA bA sA wA) (hQ' : tc_XQ B [] qA pA hQ lQ)
    (H : ∀ u, tc_RX C B T S (fun _ => tc_q0 C) (fun _ => tc_EMP) [] u → post u) :
    ∀ f i (mj mt mb mw ms mc mo md : Nat → Int32), i + f = S → tc_XM i T (fun _ => tc_q0 C) (fun _ => tc_EMP) mj mt mb mw ms mc mo md → wX_init_220 post (f + 1) (nI i) (nI C) (nI B) (nI T) (nI S) hA oA cA bA sA qA pA hQ lQ wA mj mt mb mw ms mc mo md
  | 0, i, mj, mt, mb, mw, ms, mc, mo, md, h, hM => by
    obtain ⟨c1, c2, b1, b2, t1, t2, s1, s2⟩ := hc
    have e : i = S := by omega
    subst e
    exact br_t (nI_le (by omega) (by omega)) (H _ ⟨rfl, rfl, rfl, rfl, hN, hQ', hM⟩)
  | f + 1, i, mj, mt, mb, mw, ms, mc, mo, md, h, hM => by
    have hc' := hc
    obtain ⟨c1, c2, b1, b2, t1, t2, s1, s2⟩ := hc
    refine br_f (nI_ge (by omega) (by omega)) ?_
    simp (disch := omega) only [wpX_clear, tc_vin, tc_cl, true_and, forall_eq, nI_1]
    refine tx_in220 hc' hN hQ' H f (i + 1) _ _ _ _ _ _ _ _ (by omega) (fun s hs => ?_)
    by_cases e : s = i
    · rw [e]; simp only [pk_us]; exact tc_XMs_E T _ i
    · simp only [pk_un e]; exact hM s (by omega)
theorem tx_in196 {post : SX → Prop} (hc : tc_CF C B T S) (H : ∀ u, tc_RX C B T S (fun _ => tc_q0 C) (fun _ => tc_EMP) [] u → post u) :
    ∀ f i (hA oA cA bA : Nat → Int32), i + f = B → tc_XN C i T (fun _ => tc_q0 C) hA oA cA bA (fun _ => 0) (fun _ => 0) → (∀ j, i * 5 ≤ j → hA j = 0 ∧ oA j = 0) →
    wX_init_196 post (f + 1) (nI i) (nI C) (nI B) (nI T) (nI S) hA oA cA bA (fun _ => 0) (fun _ => 0) (fun _ => 0) (fun _ => 0) (fun _ => 0) (fun _ => 0) (fun _ => 0) (fun _ => 0) (fun _ => 0) (fun _ => 0) (fun _ => 0) (fun _ => 0) (fun _ => 0) (fun _ => 0)
  | 0, i, hA, oA, cA, bA, h, hN, h0 => by
    have hc' := hc
    obtain ⟨c1, c2, b1, b2, t1, t2, s1, s2⟩ := hc
    have e : i = B := by omega
    subst e
    refine br_t (nI_le (by omega) (by omega)) ⟨S + 1, ?_⟩
    refine tx_in220 hc' hN (fun b hb => ⟨0, by omega, rfl, rfl, fun j x hx => ?_⟩) H S 0 _ _ _ _ _ _ _ _ (by omega) (fun s hs => by omega)
    exact absurd hx (by simp [tc_qs])
  | f + 1, i, hA, oA, cA, bA, h, hN, h0 => by
    have hc' := hc
    obtain ⟨c1, c2, b1, b2, t1, t2, s1, s2⟩ := hc
    refine br_f (nI_ge (by omega) (by omega)) ⟨C + 1 + 1, ?_⟩
    refine tx_sb2 hc' (by omega) (fun cA' bA' g1 g2 => ?_) (C + 1) 0 cA bA (by omega) (fun n hn => by omega) (fun j _ => ⟨rfl, rfl⟩)
    refine nm_r (nI_1 i) ?_
    refine tx_in196 hc' H f (i + 1) _ _ _ _ (by omega) (fun b hb => ⟨rfl, fun n hn => ?_⟩) (fun j hj => ?_)
    · by_cases e : b = i
      · subst e
        have ct := tc_ct_q0 hc' n
        refine ⟨?_, ?_, ?_, ?_, rfl⟩
        · rw [tc_ui, ct]
          by_cases z : n = C
          · rw [if_pos z, if_pos z]
          · rw [if_neg z, if_neg z]; exact (h0 _ (by omega)).1
        · rw [tc_ui]
          show _ = if C = n then (1 : Int32) else 0
          by_cases z : n = C
          · rw [if_pos z, if_pos z.symm]
          · rw [if_neg z, if_neg (fun q => z q.symm)]; exact (h0 _ (by omega)).2
        · rw [tc_ui]
          show _ = if n = C then (0 : Int32) else -2
          by_cases z : n = C
          · rw [if_pos z, if_pos z]
          · rw [if_neg z, if_neg z]; exact (g1 n hn).1
        · rw [(g1 n hn).2]; exact tc_nzN.symm
      · have g := (hN b (by omega)).2 n hn
        rw [tc_ux e (by omega) (by omega), tc_ux e (by omega) (by omega), tc_ux e (by omega) (by omega), (g2 _ (by omega)).1, (g2 _ (by omega)).2]
        exact g
    · rw [pk_un (by omega), pk_un (by omega)]; exact h0 j (by omega)
theorem ty_in283 {post : SY → Prop} {cA bA : Nat → Int32} (hc : tc_CF C B T S)
    (hN : ∀ b, b < B → ∀ n, n ≤ C → cA (n * 4 + b) = (if n = C then 0 else -2) ∧ bA (n * 4 + b) = -2)
    (H : ∀ v, tc_RY C B T S (fun _ => tc_q0 C) (fun _ => tc_EMP) [] v → post v) :
    ∀ f i (pA : Nat → Int32), i + f = 32 → (∀ j, j < i → pA j = nI C) →
    wY_init_283 post (nI C) (nI B) (nI T) (nI S) 0 (f + 1) (nI i) pA cA bA (fun _ => 0) (fun _ => 0) (fun _ => 0) (fun _ => 0) (fun _ => 0) (fun _ => 0) (fun _ => 0) (fun _ => 0) (fun _ => 0) (fun _ => 0) (fun _ => 0)
  | 0, i, pA, h, h0 => by
    obtain ⟨c1, c2, b1, b2, t1, t2, s1, s2⟩ := hc
    have e : i = 32 := by omega
    subst e
    refine br_t (by decide) (H _ ⟨rfl, rfl, rfl, rfl, rfl, fun b hb => ⟨rfl, fun j hj => h0 _ (by omega), fun n hn => ⟨(hN b hb n hn).1, ?_, rfl⟩⟩, fun s hs => ⟨rfl, fun z => absurd rfl z⟩, fun j x hx => absurd hx (by simp)⟩)
    rw [(hN b hb n hn).2]; exact tc_nzN.symm
  | f + 1, i, pA, h, h0 => by
    refine br_f (nI_ge (b := 32) (by omega) (by omega)) ⟨tc_vin (by omega) (by omega), nm_e (nm_r (nI_1 i) (ty_in283 hc hN H f (i + 1) _ (by omega) (fun j hj => ?_)))⟩
    rw [tc_cl (by omega)]
    by_cases e : j = i
    · rw [e, pk_us]
    · rw [pk_un e]; exact h0 j (by omega)
theorem ty_in253 {post : SY → Prop} {bA : Nat → Int32} (hc : tc_CF C B T S) (hB : ∀ j, j < 20 → bA j = -2)
    (H : ∀ v, tc_RY C B T S (fun _ => tc_q0 C) (fun _ => tc_EMP) [] v → post v) :
    ∀ f i (cA : Nat → Int32), i + f = 4 → (∀ b, b < i → cA (C * 4 + b) = 0) → (∀ j, j < C * 4 → cA j = -2) →
    wY_init_253 post (nI C) (nI B) (nI T) (nI S) 0 (f + 1) (nI i) (fun _ => 0) cA bA (fun _ => 0) (fun _ => 0) (fun _ => 0) (fun _ => 0) (fun _ => 0) (fun _ => 0) (fun _ => 0) (fun _ => 0) (fun _ => 0) (fun _ => 0) (fun _ => 0)
  | 0, i, cA, h, h0, h1 => by
    have hc' := hc
    obtain ⟨c1, c2, b1, b2, t1, t2, s1, s2⟩ := hc
    have e : i = 4 := by omega
    subst e
    refine br_t (by decide) ⟨32 + 1, ?_⟩
    refine ty_in283 hc' (fun b hb n hn => ⟨?_, hB _ (by omega)⟩) H 32 0 _ (by omega) (fun j hj => by omega)
    by_cases z : n = C
    · rw [if_pos z, z]; exact h0 b (by omega)
    · rw [if_neg z]; exact h1 _ (by omega)
  | f + 1, i, cA, h, h0, h1 => by
    have hc' := hc
    obtain ⟨c1, c2, b1, b2, t1, t2, s1, s2⟩ := hc
    refine br_f (nI_ge (b := 4) (by omega) (by omega)) ?_
    rw [tc_c4]
    refine ⟨tc_vin (by omega) (by omega), nm_e (nm_r (nI_1 i) (ty_in253 hc' hB H f (i + 1) _ (by omega) (fun b hb => ?_) (fun j hj => ?_)))⟩
    · rw [tc_cl (by omega)]
      by_cases e : b = i
      · rw [e, pk_us]
      · rw [pk_un (by omega)]; exact h0 b (by omega)
    · rw [tc_cl (by omega), pk_un (by omega)]; exact h1 j hj
theorem ty_in219 {post : SY → Prop} (hc : tc_CF C B T S) (H : ∀ v, tc_RY C B T S (fun _ => tc_q0 C) (fun _ => tc_EMP) [] v → post v) :
    ∀ f i (cA bA : Nat → Int32), i + f = 20 → (∀ j, j < i → cA j = -2 ∧ bA j = -2) →
    wY_init_219 post (nI C) (nI B) (nI T) (nI S) 0 (f + 1) (nI i) (fun _ => 0) cA bA (fun _ => 0) (fun _ => 0) (fun _ => 0) (fun _ => 0) (fun _ => 0) (fun _ => 0) (fun _ => 0) (fun _ => 0) (fun _ => 0) (fun _ => 0) (fun _ => 0)
  | 0, i, cA, bA, h, h0 => by
    have hc' := hc
    obtain ⟨c1, c2, b1, b2, t1, t2, s1, s2⟩ := hc
    have e : i = 20 := by omega
    subst e
    refine br_t (by decide) ⟨4 + 1, ?_⟩
    exact ty_in253 hc' (fun j hj => (h0 j hj).2) H 4 0 _ (by omega) (fun b hb => by omega) (fun j hj => (h0 j (by omega)).1)
  | f + 1, i, cA, bA, h, h0 => by
    refine br_f (nI_ge (b := 20) (by omega) (by omega)) ⟨tc_vin (by omega) (by omega), nm_e ⟨tc_vin (by omega) (by omega), nm_e (nm_r (nI_1 i) (ty_in219 hc H f (i + 1) _ _ (by omega) (fun j hj => ?_)))⟩⟩
    rw [tc_cl (by omega)]
    by_cases e : j = i
    · rw [e, pk_us, pk_us]; exact ⟨rfl, rfl⟩
    · rw [pk_un e, pk_un e]; exact h0 j (by omega)
theorem tc_IV0 (hc : tc_CF C B T S) : tc_IV C B T S 4 (fun _ => tc_q0 C) (fun _ => tc_EMP) [] := by
  have hc' := hc
  obtain ⟨c1, c2, b1, b2, t1, t2, s1, s2⟩ := hc
  refine ⟨hc', ⟨fun b hb => ⟨fun i hi => Or.inl (Nat.le_refl C), ⟨fun n hn => Nat.le_refl 0, Nat.zero_le 4⟩, fun n hn => Or.inr rfl, fun n hn z => ?_⟩, fun s hs => Or.inl rfl⟩, ⟨fun x hx => by simp at hx, List.nodup_nil⟩, fun b hb => ⟨fun s hs ha => absurd ha (show ¬ (0 : Nat) = 4 by decide), fun n hn _ => ⟨rfl, fun a => absurd rfl a⟩, fun n hn => Or.inl rfl⟩⟩
  have := tc_ct_q0 hc' n
  have z : tc_ct (tc_q0 C).1 n T = 0 := z
  rw [this] at z
  by_cases e : n = C
  · rw [if_pos e] at z; omega
  · exact if_neg e
end
theorem i_vc0 (k0 : Int32) (k1 : Int32) (k2 : Int32) (k3 : Int32) : wpX_init (fun u => wpY_init (fun v => i_Rel 4 u v) k0 k1 k2 k3) k0 k1 k2 k3 := by
  obtain ⟨C, c1, c2, hC⟩ := tc_clampE k0 2 4 (by omega) (by omega)
  obtain ⟨B, b1, b2, hB⟩ := tc_clampE k1 1 4 (by omega) (by omega)
  obtain ⟨T, t1, t2, hT⟩ := tc_clampE k2 1 8 (by omega) (by omega)
  obtain ⟨S, s1, s2, hS⟩ := tc_clampE k3 8 32 (by omega) (by omega)
  have hc : tc_CF C B T S := ⟨c1, c2, b1, b2, t1, t2, s1, s2⟩
  unfold wpX_init
  refine tx_clamp hC ?_
  refine tx_clamp hB ?_
  refine tx_clamp hT ?_
  refine tx_clamp hS ?_
  refine ⟨B + 1, tx_in196 hc (fun u hu => ?_) B 0 _ _ _ _ (by omega) (fun b hb => by omega) (fun j _ => ⟨rfl, rfl⟩)⟩
  unfold wpY_init
  refine hC (fun r => wY_init_135 _ k1 k2 k3 r 0 0 0 0 0 _ _ _ _ _ _ _ _ _ _ _ _ _ _) ?_
  unfold wY_init_135
  refine hB (fun r => wY_init_158 _ k2 k3 r (nI C) 0 0 0 0 _ _ _ _ _ _ _ _ _ _ _ _ _ _) ?_
  unfold wY_init_158
  refine hT (fun r => wY_init_183 _ k3 r (nI C) (nI B) 0 0 0 _ _ _ _ _ _ _ _ _ _ _ _ _ _) ?_
  unfold wY_init_183
  refine hS (fun r => ∃ n219 : Nat, wY_init_219 _ (nI C) (nI B) (nI T) r 0 n219 0 _ _ _ _ _ _ _ _ _ _ _ _ _ _) ?_
  exact ⟨20 + 1, ty_in219 hc (fun v hv => ⟨C, B, T, S, _, _, [], tc_IV0 hc, hu, hv⟩) 20 0 _ _ (by omega) (fun j hj => by omega)⟩
end
section
/-! coming to rest: three rounds empty the pool -/
def tc_G (S : Nat) (L : tc_QL) (m : Nat → tc_MG) : Prop := ∀ s, s < S → (m s).1 = 0 ∨ (((m s).1 = 3 ∨ (m s).1 = 4) ∧ (tc_hd (m s).2.2.1 L = 9999 → (m s).1 = 4 ∧ (m s).2.2.2.1 = 9999))
def tc_V (C B T S K : Nat) (k : Nat → tc_BS) (m : Nat → tc_MG) (L : tc_QL) : Prop :=
  tc_W0 C B T S K k m ∧ (∀ b, b < B → tc_hd b L ≠ 9999 → tc_PB C T S m (tc_hd b L) b (k b)) ∧ tc_G S L m
def tc_FR (C B : Nat) (L : tc_QL) (k k' : Nat → tc_BS) : Prop :=
  ∀ b, b < B → (k' b).2.2.2.1 C = (k b).2.2.2.1 C ∧ (k' b).2.2.2.2 = (k b).2.2.2.2 ∧ (tc_hd b L = 9999 → (k' b).1 = (k b).1 ∧ (k' b).2.1 = (k b).2.1)
def tc_NM (S : Nat) (m : Nat → tc_MG) (b : Nat) : Prop := ∀ s, s < S → (m s).1 ≠ 0 → (m s).2.2.1 ≠ b
theorem tc_FR_r (C B : Nat) (L : tc_QL) (k : Nat → tc_BS) : tc_FR C B L k k := fun _ _ => ⟨rfl, rfl, fun _ => ⟨rfl, rfl⟩⟩
theorem tc_FR_t {C B : Nat} {L : tc_QL} {k k' k'' : Nat → tc_BS} (h1 : tc_FR C B L k k') (h2 : tc_FR C B L k' k'') : tc_FR C B L k k'' := by
  intro b hb
  obtain ⟨a1, a2, a3⟩ := h1 b hb
  obtain ⟨e1, e2, e3⟩ := h2 b hb
  exact ⟨e1.trans a1, e2.trans a2, fun z => ⟨(e3 z).1.trans (a3 z).1, (e3 z).2.trans (a3 z).2⟩⟩
section
variable {C B T S K : Nat} {k : Nat → tc_BS} {m : Nat → tc_MG} {L : tc_QL} {s b n d h y st : Nat} {w : Int32}
/-- what one delivery changes in the block and in the slot -/
theorem tc_dB_loc {q : tc_BS} {a : Nat} {v : Int32} (ha : a = 3 ∨ a = 4) (hd : a = 4 → d < C) (hG : h = 9999 → a = 4 ∧ y = 9999) :
    (tc_dB T s q (a, d, b, y, st, v)).1.2.2.2.1 C = q.2.2.2.1 C ∧ (tc_dB T s q (a, d, b, y, st, v)).1.2.2.2.2 = q.2.2.2.2 ∧
    (h = 9999 → (tc_dB T s q (a, d, b, y, st, v)).1.1 = q.1 ∧ (tc_dB T s q (a, d, b, y, st, v)).1.2.1 = q.2.1) ∧
    ((tc_dB T s q (a, d, b, y, st, v)).2.1 = 0 ∨ ((tc_dB T s q (a, d, b, y, st, v)).2.1 = 3 ∧ (tc_dB T s q (a, d, b, y, st, v)).2.2.2.1 = b ∧ h ≠ 9999)) := by
  rcases q with ⟨p, c, e, t, w⟩
  rcases ha with ha | ha
  · subst ha
    have h9 : h ≠ 9999 := fun z => absurd (hG z).1 (by decide)
    simp only [tc_dB, if_true]
    by_cases q1 : e d = 9999 ∨ e d = d
    · rw [if_pos q1]
      exact ⟨rfl, rfl, fun z => absurd z h9, Or.inl rfl⟩
    · rw [if_neg q1]
      exact ⟨rfl, rfl, fun z => absurd z h9, Or.inr ⟨rfl, rfl, h9⟩⟩
  · subst ha
    have hd := hd rfl
    simp only [tc_dB, show ¬ ((4 : Nat) = 3) by decide, if_false, if_true]
    by_cases q1 : st ≤ t d
    · rw [if_pos q1]
      exact ⟨rfl, rfl, fun _ => ⟨rfl, rfl⟩, Or.inl rfl⟩
    · rw [if_neg q1]
      have e1 : tc_f1 t d st C = t C := tc_f1n (by omega)
      by_cases q2 : y = 9999 ∨ y = d ∨ tc_ct p d T = 0
      · rw [if_pos q2]
        exact ⟨e1, rfl, fun _ => ⟨rfl, rfl⟩, Or.inl rfl⟩
      · rw [if_neg q2]
        have h9 : h ≠ 9999 := fun z => q2 (Or.inl (hG z).2)
        exact ⟨e1, rfl, fun z => absurd z h9, Or.inr ⟨rfl, rfl, h9⟩⟩
theorem tc_step (hc : tc_CF C B T S) (hs : s < S) (hV : tc_V C B T S K k m L) (h0 : (m s).1 ≠ 0) :
    tc_V C B T S K (tc_dk T s k m) (tc_dm T s k m) L ∧ tc_FR C B L k (tc_dk T s k m) ∧ (tc_dm T s k m s).1 ≠ 4 ∧ ∀ b, tc_NM S m b → tc_dk T s k m b = k b ∧ tc_NM S (tc_dm T s k m) b := by
  obtain ⟨c1, c2, b1, b2, t1, t2, s1, s2⟩ := hc
  obtain ⟨hW, hP, hG⟩ := hV
  have D := tc_dB_W c2 (by omega) hs hW (fun z => h0 (by rw [z]; rfl))
  have hWm := hW.2 s hs
  have hGs := hG s hs
  have D1 := D.1
  have D2 := D.2
  have hm1 : ∀ s', s' ≠ s → tc_dm T s k m s' = m s' := fun s' z => tc_f1n z
  have hms : tc_dm T s k m s = (tc_dB T s (k (m s).2.2.1) (m s)).2 := tc_f1s _ _ _
  have hk1 : ∀ b', b' ≠ (m s).2.2.1 → tc_dk T s k m b' = k b' := fun b' z => tc_f1n z
  have hks : tc_dk T s k m (m s).2.2.1 = (tc_dB T s (k (m s).2.2.1) (m s)).1 := tc_f1s _ _ _
  have hNM : ∀ b, tc_NM S m b → b ≠ (m s).2.2.1 := fun b hb z => hb s hs h0 z.symm
  rcases hm : m s with ⟨a, d, b, y, st, v⟩
  rw [hm] at hWm hGs hms hk1 hks hNM h0
  simp only at hGs hms hk1 hks hNM h0
  rcases hGs with hGs | ⟨ha, hGs⟩
  · exact absurd hGs h0
  rcases hWm with g | ⟨hb, hd, g⟩
  · exact absurd (congrArg (fun r : tc_MG => r.1) g) h0
  have hd4 : a = 4 → d < C := by omega
  obtain ⟨l1, l2, l3, l4⟩ := tc_dB_loc (T := T) (s := s) (q := k b) (st := st) (v := v) (b := b) (d := d) (h := tc_hd b L) ha hd4 hGs
  rw [← hks] at l1 l2 l3
  rw [← hms] at l4
  refine ⟨⟨D1, fun b' hb' z => D2 b' _ hb' (hP b' hb' z), fun s' hs' => ?_⟩, fun b' hb' => ?_, ?_, fun b' hb' => ⟨hk1 b' (hNM b' hb'), fun s' hs' z => ?_⟩⟩
  · by_cases e : s' = s
    · subst e
      rcases l4 with l4 | ⟨l4, l5, l6⟩
      · exact Or.inl l4
      · refine Or.inr ⟨Or.inl l4, fun z => ?_⟩
        rw [l5] at z
        exact absurd z l6
    · rw [hm1 s' e]; exact hG s' hs'
  · by_cases e : b' = b
    · subst e; exact ⟨l1, l2, l3⟩
    · rw [hk1 b' e]; exact ⟨rfl, rfl, fun _ => ⟨rfl, rfl⟩⟩
  · rcases l4 with l4 | ⟨l4, l5, l6⟩
    · omega
    · omega
  · by_cases e : s' = s
    · subst e
      rcases l4 with l4 | ⟨l4, l5, l6⟩
      · exact absurd l4 z
      · rw [l5]; exact fun q => hNM b' hb' q.symm
    · rw [hm1 s' e] at z ⊢; exact hb' s' hs' z
theorem tc_sw1 (hc : tc_CF C B T S) (hV : tc_V C B T S K k m L) : ∀ j, j ≤ S → tc_V C B T S K (tc_sw T k m j).1 (tc_sw T k m j).2 L ∧ tc_FR C B L k (tc_sw T k m j).1 ∧ (∀ s, s < j → ((tc_sw T k m j).2 s).1 ≠ 4) ∧
    (∀ b, tc_NM S m b → (tc_sw T k m j).1 b = k b ∧ tc_NM S (tc_sw T k m j).2 b)
  | 0, _ => ⟨hV, tc_FR_r C B L k, fun s hs => by omega, fun b hb => ⟨rfl, hb⟩⟩
  | j + 1, hj => by
    obtain ⟨i1, i2, i3, i4⟩ := tc_sw1 hc hV j (by omega)
    simp only [tc_sw]
    by_cases e : ((tc_sw T k m j).2 j).1 = 0
    · rw [if_pos e]
      refine ⟨i1, i2, fun s hs => ?_, i4⟩
      by_cases es : s = j
      · rw [es]; omega
      · exact i3 s (by omega)
    · rw [if_neg e]
      obtain ⟨a1, a2, a3, a4⟩ := tc_step hc (show j < S by omega) i1 e
      refine ⟨a1, tc_FR_t i2 a2, fun s hs => ?_, fun b hb => ?_⟩
      · by_cases es : s = j
        · rw [es]; exact a3
        · have : tc_dm T j (tc_sw T k m j).1 (tc_sw T k m j).2 s = (tc_sw T k m j).2 s := tc_f1n es
          simp only [this]
          exact i3 s (by omega)
      · obtain ⟨x1, x2⟩ := i4 b hb
        obtain ⟨x3, x4⟩ := a4 b x2
        exact ⟨x3.trans x1, x4⟩
/-- without notices all nodes of a block with a head believe in it -/
theorem tc_e_hd (hV : tc_V C B T S K k m L) (hn4 : ∀ s, s < S → (m s).1 ≠ 4) (hb : b < B) (hh : tc_hd b L ≠ 9999) (hd : d ≤ C) : (k b).2.2.1 d = tc_hd b L ∧ (d ≠ tc_hd b L → tc_ct (k b).1 d T = 0) := by
  have hP := hV.2.1 b hb hh
  revert hP
  rcases k b with ⟨p, c, e, t, w⟩
  intro hP
  have ht : t d = t C := by
    by_cases z : d = C
    · rw [z]
    · rcases hP.2.2 d (by omega) with q | ⟨s', hs', q⟩
      · exact q
      · exact absurd (by rw [q]) (hn4 s' hs')
  have := hP.2.1 d hd ht
  exact ⟨this.1, fun z => this.2 hh z⟩
theorem tc_sw2 (hc : tc_CF C B T S) (hV : tc_V C B T S K k m L) (hn4 : ∀ s, s < S → (m s).1 ≠ 4) : ∀ j, j ≤ S → tc_V C B T S K (tc_sw T k m j).1 (tc_sw T k m j).2 L ∧ (∀ s, s < S → ((tc_sw T k m j).2 s).1 ≠ 4) ∧
    (∀ s, s < j → ((tc_sw T k m j).2 s).1 = 0 ∨ ((tc_sw T k m j).2 s).2.1 = tc_hd ((tc_sw T k m j).2 s).2.2.1 L)
  | 0, _ => ⟨hV, hn4, fun s hs => by omega⟩
  | j + 1, hj => by
    obtain ⟨i1, i2, i3⟩ := tc_sw2 hc hV hn4 j (by omega)
    simp only [tc_sw]
    by_cases e : ((tc_sw T k m j).2 j).1 = 0
    · rw [if_pos e]
      refine ⟨i1, i2, fun s hs => ?_⟩
      by_cases es : s = j
      · rw [es]; exact Or.inl e
      · exact i3 s (by omega)
    · rw [if_neg e]
      obtain ⟨a1, a2, a3, a4⟩ := tc_step hc (show j < S by omega) i1 e
      generalize tc_sw T k m j = r at i1 i2 i3 e a1 a2 a3 a4 ⊢
      rcases r with ⟨k, m⟩
      simp only at i1 i2 i3 e a1 a2 a3 a4 ⊢
      have hother : ∀ s, s ≠ j → tc_dm T j k m s = m s := fun s z => tc_f1n z
      refine ⟨a1, fun s hs => ?_, fun s hs => ?_⟩
      · by_cases es : s = j
        · rw [es]; exact a3
        · rw [hother s es]; exact i2 s hs
      · by_cases es : s = j
        · rw [es]
          have hG := i1.2.2 j (by omega)
          have h4 := i2 j (by omega)
          have hWm := i1.1.2 j (by omega)
          have hms : tc_dm T j k m j = (tc_dB T j (k (m j).2.2.1) (m j)).2 := tc_f1s _ _ _
          rw [hms]
          rcases hm : m j with ⟨a, d, b, y, st, v⟩
          rw [hm] at hG h4 hWm e
          simp only at hG h4 e ⊢
          rcases hWm with g | ⟨hb, hd, g⟩
          · exact absurd (congrArg (fun r : tc_MG => r.1) g) e
          have a3' : a = 3 := by omega
          subst a3'
          have h9 : tc_hd b L ≠ 9999 := by
            rcases hG with hG | ⟨_, hG⟩
            · exact absurd hG e
            · exact fun z => absurd (hG z).1 (by decide)
          have ee := (tc_e_hd i1 i2 hb h9 hd).1
          revert ee
          rcases k b with ⟨p, c, e', t, w⟩
          intro ee
          simp only at ee
          simp only [tc_dB, if_true]
          by_cases q1 : e' d = 9999 ∨ e' d = d
          · rw [if_pos q1]; exact Or.inl rfl
          · rw [if_neg q1]; exact Or.inr ee
        · rw [hother s es]; exact i3 s (by omega)
theorem tc_sw3 (hc : tc_CF C B T S) (hV : tc_V C B T S K k m L) (hn4 : ∀ s, s < S → (m s).1 ≠ 4) (hto : ∀ s, s < S → (m s).1 = 0 ∨ (m s).2.1 = tc_hd (m s).2.2.1 L) : ∀ j, j ≤ S → tc_V C B T S K (tc_sw T k m j).1 (tc_sw T k m j).2 L ∧ (∀ s, s < S → ((tc_sw T k m j).2 s).1 ≠ 4) ∧
    (∀ s, s < S → ((tc_sw T k m j).2 s).1 = 0 ∨ ((tc_sw T k m j).2 s).2.1 = tc_hd ((tc_sw T k m j).2 s).2.2.1 L) ∧ ∀ s, s < j → ((tc_sw T k m j).2 s).1 = 0
  | 0, _ => ⟨hV, hn4, hto, fun s hs => by omega⟩
  | j + 1, hj => by
    obtain ⟨i1, i2, i3, i4⟩ := tc_sw3 hc hV hn4 hto j (by omega)
    simp only [tc_sw]
    by_cases e : ((tc_sw T k m j).2 j).1 = 0
    · rw [if_pos e]
      refine ⟨i1, i2, i3, fun s hs => ?_⟩
      by_cases es : s = j
      · rw [es]; exact e
      · exact i4 s (by omega)
    · rw [if_neg e]
      obtain ⟨a1, a2, a3, a4⟩ := tc_step hc (show j < S by omega) i1 e
      generalize tc_sw T k m j = r at i1 i2 i3 i4 e a1 a2 a3 a4 ⊢
      rcases r with ⟨k, m⟩
      simp only at i1 i2 i3 i4 e a1 a2 a3 a4 ⊢
      have hother : ∀ s, s ≠ j → tc_dm T j k m s = m s := fun s z => tc_f1n z
      have h0 : (tc_dm T j k m j).1 = 0 := by
        have hG := i1.2.2 j (by omega)
        have h4 := i2 j (by omega)
        have hWm := i1.1.2 j (by omega)
        have hto := i3 j (by omega)
        have hms : tc_dm T j k m j = (tc_dB T j (k (m j).2.2.1) (m j)).2 := tc_f1s _ _ _
        rw [hms]
        rcases hm : m j with ⟨a, d, b, y, st, v⟩
        rw [hm] at hG h4 hWm e hto
        simp only at hG h4 e hto ⊢
        rcases hWm with g | ⟨hb, hd, g⟩
        · exact absurd (congrArg (fun r : tc_MG => r.1) g) e
        have a3' : a = 3 := by omega
        subst a3'
        have h9 : tc_hd b L ≠ 9999 := by
          rcases hG with hG | ⟨_, hG⟩
          · exact absurd hG e
          · exact fun z => absurd (hG z).1 (by decide)
        have ee := (tc_e_hd i1 i2 hb h9 hd).1
        have hto : d = tc_hd b L := by
          rcases hto with z | z
          · exact absurd z e
          · exact z
        revert ee
        rcases k b with ⟨p, c, e', t, w⟩
        intro ee
        simp only at ee
        simp only [tc_dB, if_true]
        rw [if_pos (Or.inr (ee.trans hto.symm))]
        rfl
      refine ⟨a1, fun s hs => ?_, fun s hs => ?_, fun s hs => ?_⟩
      · by_cases es : s = j
        · rw [es]; exact a3
        · rw [hother s es]; exact i2 s hs
      · by_cases es : s = j
        · rw [es]; exact Or.inl h0
        · rw [hother s es]; exact i3 s hs
      · by_cases es : s = j
        · rw [es]; exact h0
        · rw [hother s es]; exact i4 s (by omega)
end
def tc_dr (T S : Nat) (k : Nat → tc_BS) (m : Nat → tc_MG) : Nat → (Nat → tc_BS) × (Nat → tc_MG)
  | 0 => (k, m)
  | j + 1 => tc_sw T (tc_dr T S k m j).1 (tc_dr T S k m j).2 S
theorem tc_drain {C B T S K : Nat} {k : Nat → tc_BS} {m : Nat → tc_MG} {L : tc_QL} (hc : tc_CF C B T S) (hV : tc_V C B T S K k m L) :
    tc_V C B T S K (tc_dr T S k m 3).1 (tc_dr T S k m 3).2 L ∧ (∀ s, s < S → (tc_dr T S k m 3).2 s = tc_EMP) ∧ tc_FR C B L k (tc_dr T S k m 3).1 ∧ ∀ b, tc_NM S m b → (tc_dr T S k m 3).1 b = k b := by
  obtain ⟨a1, a2, a3, a4⟩ := tc_sw1 hc hV S (Nat.le_refl S)
  obtain ⟨d1, d2, d3, d4⟩ := tc_sw1 hc a1 S (Nat.le_refl S)
  obtain ⟨e1, e2, e3⟩ := tc_sw2 hc a1 a3 S (Nat.le_refl S)
  obtain ⟨f1, f2, f3, f4⟩ := tc_sw1 hc d1 S (Nat.le_refl S)
  obtain ⟨g1, g2, g3, g4⟩ := tc_sw3 hc e1 e2 e3 S (Nat.le_refl S)
  refine ⟨g1, fun s hs => tc_kd0 g1.1 hs (g4 s hs), tc_FR_t (tc_FR_t a2 d2) f2, fun b hb => ?_⟩
  obtain ⟨x1, x2⟩ := a4 b hb
  obtain ⟨x3, x4⟩ := d4 b x2
  obtain ⟨x5, x6⟩ := f4 b x4
  exact x5.trans (x3.trans x1)
end
section
/-! the head finishes, the next one gathers -/
def tc_RS (C T : Nat) (Q : tc_QL) (q q' : tc_BS) : Prop :=
  q'.2.2.2.1 C = q.2.2.2.1 C + Q.length ∧ (Q = [] → (∀ i, i < T → q'.1 i = q.1 i) ∧ (∀ n, n ≤ C → q'.2.1 n = q.2.1 n) ∧ q'.2.2.2.2 = q.2.2.2.2) ∧
  (∀ x, Q.getLast? = some x → (∀ i, i < T → q'.1 i = x.2.1) ∧ (∀ n, n ≤ C → q'.2.1 n = if n = x.2.1 then x.2.2 else -2) ∧ q'.2.2.2.2 = x.2.2)
def tc_Z (C B T S K : Nat) (k : Nat → tc_BS) (m : Nat → tc_MG) (L : tc_QL) : Prop :=
  tc_V C B T S K k m L ∧ tc_LO C B L ∧ (∀ s, s < S → m s = tc_EMP) ∧ ∀ b, b < B → (k b).2.2.2.1 C + (tc_qs b L).length ≤ K
theorem tc_RS_nil {C T : Nat} {q q' : tc_BS} (h : q' = q) : tc_RS C T [] q q' := by
  subst h
  exact ⟨rfl, fun _ => ⟨fun _ _ => rfl, fun _ _ => rfl, rfl⟩, fun x hx => absurd hx (by simp)⟩
theorem tc_RS_cons {C T : Nat} {x : Nat × Nat × Int32} {l : tc_QL} {q q1 q' : tc_BS} (ht : q1.2.2.2.1 C = q.2.2.2.1 C + 1)
    (hl : l = [] → (∀ i, i < T → q1.1 i = x.2.1) ∧ (∀ n, n ≤ C → q1.2.1 n = if n = x.2.1 then x.2.2 else -2) ∧ q1.2.2.2.2 = x.2.2) (h : tc_RS C T l q1 q') : tc_RS C T (x :: l) q q' := by
  obtain ⟨h1, h2, h3⟩ := h
  refine ⟨by rw [h1, ht, List.length_cons]; omega, fun z => absurd z (by simp), fun z hz => ?_⟩
  cases l with
  | nil =>
    have hz : x = z := Option.some.inj hz
    subst hz
    obtain ⟨a1, a2, a3⟩ := hl rfl
    obtain ⟨d1, d2, d3⟩ := h2 rfl
    exact ⟨fun i hi => (d1 i hi).trans (a1 i hi), fun n hn => (d2 n hn).trans (a2 n hn), d3.trans a3⟩
  | cons y l =>
    rw [List.getLast?_cons_cons] at hz
    exact h3 z hz
theorem tc_W0_tight {C B T S K K' : Nat} {k : Nat → tc_BS} {m : Nat → tc_MG} (h : tc_W0 C B T S K' k m) (ht : ∀ b, b < B → (k b).2.2.2.1 C ≤ K) : tc_W0 C B T S K k m := by
  refine ⟨fun b hb => ?_, h.2⟩
  have h1 := h.1 b hb
  have h2 := ht b hb
  revert h1 h2
  rcases k b with ⟨p, c, e, t, w⟩
  intro h1 h2
  exact ⟨h1.1, ⟨h1.2.1.1, h2⟩, h1.2.2⟩
section
variable {C B T S K : Nat} {k : Nat → tc_BS} {m : Nat → tc_MG} {L l : tc_QL} {s b n d h y st : Nat} {w : Int32}
theorem tc_all_at (hC : C ≤ 4) (hV : tc_V C B T S K k m L) (hE : ∀ s, s < S → m s = tc_EMP) (hb : b < B) (hh : tc_hd b L ≠ 9999) : ∀ i, i < T → (k b).1 i = tc_hd b L := by
  intro i hi
  have hn4 : ∀ s, s < S → (m s).1 ≠ 4 := fun s hs => by rw [hE s hs]; decide
  have hW := hV.1.1 b hb
  have he := fun d hd => tc_e_hd (d := d) hV hn4 hb hh hd
  revert hW he
  rcases k b with ⟨p, c, e, t, w⟩
  intro hW he
  simp only at he ⊢
  have hpC : p i ≤ C := by
    rcases hW.1 i hi with z | ⟨s, z1, z2, z3, z4⟩
    · exact z
    · rw [hE s z1] at z3; exact absurd z3 (by decide)
  refine Classical.byContradiction fun z => ?_
  have h1 := (he (p i) hpC).2 z
  have h2 := tc_ct_pos (p := p) (x := p i) T hi rfl
  omega
theorem tc_fstep (hc : tc_CF C B T S) (hb : b < B) (hZ : tc_Z C B T S K k m L) (hq : tc_qs b L = (b, n, w) :: l) :
    n < C ∧ tc_ct (k b).1 n T = T ∧ C + 1 ≤ tc_fr S m ∧ tc_V C B T S K (tc_ak C T S b (tc_hd b (tc_rm b L)) (tc_wk b n w k) m) (tc_am C T S b (tc_hd b (tc_rm b L)) (tc_wk b n w k) m) (tc_rm b L) ∧
    tc_ak C T S b (tc_hd b (tc_rm b L)) (tc_wk b n w k) m b = tc_q1 C (tc_hd b (tc_rm b L)) (tc_wk b n w k b) ∧ (∀ b', b' ≠ b → tc_ak C T S b (tc_hd b (tc_rm b L)) (tc_wk b n w k) m b' = k b') ∧
    (∀ b', b' ≠ b → tc_NM S (tc_am C T S b (tc_hd b (tc_rm b L)) (tc_wk b n w k) m) b') ∧ ∀ i, i < T → (k b).1 i = n := by
  have hc' := hc
  obtain ⟨c1, c2, b1, b2, t1, t2, s1, s2⟩ := hc
  obtain ⟨hV, hL, hE, hTB⟩ := hZ
  have hhd : tc_hd b L = n := by rw [tc_hd_qs, hq]; rfl
  have hxm : (b, n, w) ∈ L := (tc_qs_mem.mp (show (b, n, w) ∈ tc_qs b L by rw [hq]; exact List.mem_cons_self)).1
  have hn : n < C := (hL.1 _ hxm).2
  have hall := tc_all_at c2 hV hE hb (by omega)
  rw [hhd] at hall
  have hct : tc_ct (k b).1 n T = T := tc_ct_all T hall
  have hfr : tc_fr S m = S := tc_ct_all S (fun s hs => by show (m s).1 = 0; rw [hE s hs]; rfl)
  have W1 := tc_wr_W (n := n) (w := w) (show 0 < tc_ct (k b).1 n T by omega) hV.1
  have hL1 := tc_LO_rm b hL
  have hho := tc_hd_ok hL1 b
  obtain ⟨w1, w2, w3, w4⟩ := tc_ann_W (h := tc_hd b (tc_rm b L)) c2 hb hho (by omega) W1.1
  have kb : tc_wk b n w k b = ((k b).1, tc_f1 (k b).2.1 n w, (k b).2.2.1, (k b).2.2.2.1, w) := tc_f1s _ _ _
  have kn : ∀ b', b' ≠ b → tc_wk b n w k b' = k b' := fun b' z => tc_f1n z
  have hcC : tc_ct (tc_wk b n w k b).1 C T = 0 := by
    rw [kb]
    exact tc_ct_zero T (fun i hi z => by
      have := hall i hi
      simp only at z
      omega)
  have ek : tc_ak C T S b (tc_hd b (tc_rm b L)) (tc_wk b n w k) m = tc_f1 (tc_wk b n w k) b (tc_q1 C (tc_hd b (tc_rm b L)) (tc_wk b n w k b)) := if_pos (Or.inr hcC)
  have em : tc_am C T S b (tc_hd b (tc_rm b L)) (tc_wk b n w k) m = tc_a1 C S b (tc_hd b (tc_rm b L)) (tc_wk b n w k) m := if_pos (Or.inr hcC)
  have ekb : tc_ak C T S b (tc_hd b (tc_rm b L)) (tc_wk b n w k) m b = tc_q1 C (tc_hd b (tc_rm b L)) (tc_wk b n w k b) := by rw [ek, tc_f1s]
  have ekn : ∀ b', b' ≠ b → tc_ak C T S b (tc_hd b (tc_rm b L)) (tc_wk b n w k) m b' = k b' := fun b' z => by rw [ek, tc_f1n z, kn b' z]
  have a3 := (tc_an_ok (S := S) (b := b) (y := tc_hd b (tc_rm b L)) (st := (tc_wk b n w k b).2.2.2.1 C + 1) (m := m) C (by omega)).2.2.1
  have hm2 : ∀ s, s < S → tc_am C T S b (tc_hd b (tc_rm b L)) (tc_wk b n w k) m s = tc_EMP ∨ ∃ j, tc_am C T S b (tc_hd b (tc_rm b L)) (tc_wk b n w k) m s = (4, j, b, tc_hd b (tc_rm b L), (tc_wk b n w k b).2.2.2.1 C + 1, -2) := by
    intro s hs
    rw [em]
    rcases a3 s with z | ⟨_, j, _, z⟩
    · exact Or.inl (z.trans (hE s hs))
    · exact Or.inr ⟨j, z⟩
  have tC1 : (tc_q1 C (tc_hd b (tc_rm b L)) (tc_wk b n w k b)).2.2.2.1 C = (k b).2.2.2.1 C + 1 := by
    rw [kb]; exact tc_f1s _ _ _
  refine ⟨hn, hct, by omega, ⟨tc_W0_tight w1 (fun b' hb' => ?_), fun b' hb' hh => ?_, fun s hs => ?_⟩, ekb, ekn, fun b' hb' s hs z => ?_, hall⟩
  · by_cases e : b' = b
    · subst e
      rw [ekb, tC1]
      have := hTB b' hb'
      rw [hq, List.length_cons] at this
      omega
    · rw [ekn b' e]
      have := hTB b' hb'
      omega
  · by_cases e : b' = b
    · subst e; exact w2
    · have eh : tc_hd b' (tc_rm b L) = tc_hd b' L := by rw [tc_hd_qs, tc_qs_rmn e, ← tc_hd_qs]
      rw [eh] at hh ⊢
      exact w3 b' _ e (W1.2 b' _ (hV.2.1 b' hb' hh))
  · rcases hm2 s hs with z | ⟨j, z⟩
    · rw [z]; exact Or.inl rfl
    · rw [z]; exact Or.inr ⟨Or.inr rfl, fun q => ⟨rfl, q⟩⟩
  · rcases hm2 s hs with q | ⟨j, q⟩
    · rw [q] at z; exact absurd rfl z
    · rw [q]; exact fun r => hb' r.symm
/-- finish and the rounds behind it -/
theorem tc_fdrain (hc : tc_CF C B T S) (hb : b < B) (hZ : tc_Z C B T S K k m L) (hq : tc_qs b L = (b, n, w) :: l) :
    tc_Z C B T S K (tc_dr T S (tc_ak C T S b (tc_hd b (tc_rm b L)) (tc_wk b n w k) m) (tc_am C T S b (tc_hd b (tc_rm b L)) (tc_wk b n w k) m) 3).1 (tc_dr T S (tc_ak C T S b (tc_hd b (tc_rm b L)) (tc_wk b n w k) m) (tc_am C T S b (tc_hd b (tc_rm b L)) (tc_wk b n w k) m) 3).2 (tc_rm b L) ∧
    (∀ b', b' ≠ b → (tc_dr T S (tc_ak C T S b (tc_hd b (tc_rm b L)) (tc_wk b n w k) m) (tc_am C T S b (tc_hd b (tc_rm b L)) (tc_wk b n w k) m) 3).1 b' = k b') ∧
    (∀ q', tc_RS C T l ((tc_dr T S (tc_ak C T S b (tc_hd b (tc_rm b L)) (tc_wk b n w k) m) (tc_am C T S b (tc_hd b (tc_rm b L)) (tc_wk b n w k) m) 3).1 b) q' → tc_RS C T ((b, n, w) :: l) (k b) q') := by
  obtain ⟨f1, f2, f3, f4, f5, f6, f7, f8⟩ := tc_fstep hc hb hZ hq
  obtain ⟨d1, d2, d3, d4⟩ := tc_drain hc f4
  obtain ⟨hV, hL, hE, hTB⟩ := hZ
  generalize tc_dr T S (tc_ak C T S b (tc_hd b (tc_rm b L)) (tc_wk b n w k) m) (tc_am C T S b (tc_hd b (tc_rm b L)) (tc_wk b n w k) m) 3 = r at d1 d2 d3 d4 ⊢
  generalize tc_ak C T S b (tc_hd b (tc_rm b L)) (tc_wk b n w k) m = k2 at f4 f5 f6 d1 d2 d3 d4 ⊢
  have kb : tc_wk b n w k b = ((k b).1, tc_f1 (k b).2.1 n w, (k b).2.2.1, (k b).2.2.2.1, w) := tc_f1s _ _ _
  rw [kb] at f5
  have eqt : tc_qs b (tc_rm b L) = l := by rw [tc_qs_rm, hq]; rfl
  have hF := d3 b hb
  rw [f5] at hF
  have ht : (r.1 b).2.2.2.1 C = (k b).2.2.2.1 C + 1 := hF.1.trans (tc_f1s _ _ _)
  have hoth : ∀ b', b' ≠ b → r.1 b' = k b' := fun b' z => (d4 b' (f7 b' z)).trans (f6 b' z)
  refine ⟨⟨d1, tc_LO_rm b hL, d2, fun b' hb' => ?_⟩, hoth, fun q' hq' => tc_RS_cons ht (fun z => ?_) hq'⟩
  · by_cases e : b' = b
    · subst e
      rw [ht, eqt]
      have := hTB b' hb'
      rw [hq, List.length_cons] at this
      omega
    · rw [hoth b' e, tc_qs_rmn e]; exact hTB b' hb'
  · have h9 : tc_hd b (tc_rm b L) = 9999 := by rw [tc_hd_qs, eqt, z]; rfl
    obtain ⟨g1, g2⟩ := hF.2.2 h9
    refine ⟨fun i hi => ?_, fun n' hn' => ?_, hF.2.1⟩
    · rw [g1]; exact f8 i hi
    · rw [g2]
      show tc_f1 (k b).2.1 n w n' = if n' = n then w else -2
      by_cases e : n' = n
      · rw [if_pos e, e, tc_f1s]
      · rw [if_neg e, tc_f1n e]
        have hW := hV.1.1 b hb
        have h0 : tc_ct (k b).1 n' T = 0 := tc_ct_zero T (fun i hi q => e (q.symm.trans (f8 i hi)))
        revert hW h0
        rcases k b with ⟨p, c, e', t, w'⟩
        intro hW h0
        exact hW.2.2.2 n' hn' h0
end
end
section
/-! X: drain, completeQueue, calm -/
def tc_ca (C : Nat) (q : tc_BS) : tc_BS := (q.1, q.2.1, fun _ => 9999, fun _ => q.2.2.2.1 C, q.2.2.2.2)
section
variable {C B T S K : Nat} {k : Nat → tc_BS} {m : Nat → tc_MG} {L l : tc_QL} {s b n d h y st : Nat} {w : Int32}
theorem tc_dr_W (hc : tc_CF C B T S) (hW : tc_W0 C B T S K k m) : ∀ j, tc_W0 C B T S K (tc_dr T S k m j).1 (tc_dr T S k m j).2
  | 0 => hW
  | j + 1 => (tc_sw_W hc (tc_dr_W hc hW j) S (Nat.le_refl S)).1
theorem tx_dr2 {post : SX → Prop} (hc : tc_CF C B T S) (hK : K < 9999) (hW : tc_W0 C B T S K k m) (H : ∀ u', tc_RX C B T S (tc_dr T S k m 3).1 (tc_dr T S k m 3).2 L u' → post u') :
    ∀ f j, j + f = 3 → ∀ u, tc_RX C B T S (tc_dr T S k m j).1 (tc_dr T S k m j).2 L u → match u with | (f_caches, f_blocks, f_tokens, f_slots, hA, oA, cA, bA, sA, qA, pA, hQ, lQ, wA, mj, mt, mb, mw, ms, mc, mo, md) => wX_drain_2 post (f + 1) (nI j) f_caches f_blocks f_tokens f_slots hA oA cA bA sA qA pA hQ lQ wA mj mt mb mw ms mc mo md
  | 0, j, hj => by
    have : j = 3 := by omega
    subst this
    refine tc_RXi ?_
    intro hA oA cA bA sA qA pA hQ lQ wA mj mt mb mw ms mc mo md hN hQ' hM
    exact br_t (by decide) (H _ ⟨rfl, rfl, rfl, rfl, hN, hQ', hM⟩)
  | f + 1, j, hj => by
    have ih := tx_dr2 hc hK hW H f (j + 1) (by omega)
    refine tc_RXi ?_
    intro hA oA cA bA sA qA pA hQ lQ wA mj mt mb mw ms mc mo md hN hQ' hM
    refine br_f (nI_ge (b := 3) (by omega) (by omega)) (tx_sweep hc hK (tc_dr_W hc hW j) ⟨rfl, rfl, rfl, rfl, hN, hQ', hM⟩ ?_)
    clear hN hQ' hM
    refine tc_RXi ?_
    intro hA oA cA bA sA qA pA hQ lQ wA mj mt mb mw ms mc mo md hN hQ' hM
    exact nm_r (nI_1 j) (ih (nI C, nI B, nI T, nI S, hA, oA, cA, bA, sA, qA, pA, hQ, lQ, wA, mj, mt, mb, mw, ms, mc, mo, md) ⟨rfl, rfl, rfl, rfl, hN, hQ', hM⟩)
theorem tx_drain {post : SX → Prop} {u : SX} (hc : tc_CF C B T S) (hK : K < 9999) (hW : tc_W0 C B T S K k m) (hR : tc_RX C B T S k m L u)
    (H : ∀ u', tc_RX C B T S (tc_dr T S k m 3).1 (tc_dr T S k m 3).2 L u' → post u') : wpX_drain post u := by
  refine tc_RXe (P := fun u => wpX_drain post u) ?_ hR
  intro hA oA cA bA sA qA pA hQ lQ wA mj mt mb mw ms mc mo md hN hQ' hM
  exact ⟨3 + 1, tx_dr2 hc hK hW H 3 0 (by omega) (nI C, nI B, nI T, nI S, hA, oA, cA, bA, sA, qA, pA, hQ, lQ, wA, mj, mt, mb, mw, ms, mc, mo, md) ⟨rfl, rfl, rfl, rfl, hN, hQ', hM⟩⟩
theorem tx_cq9 {post : SX → Prop} {N : Nat} (hc : tc_CF C B T S) (hb : b < B) (hK : K + 1 < 9999) (hN4 : N ≤ 4) : ∀ (Q : tc_QL) (i : Nat) (k : Nat → tc_BS) (m : Nat → tc_MG) (L : tc_QL), tc_Z C B T S K k m L → tc_qs b L = Q → i + Q.length = N →
    (∀ k' m' L' u', tc_Z C B T S K k' m' L' → tc_RX C B T S k' m' L' u' → tc_qs b L' = [] → (∀ b', b' ≠ b → tc_qs b' L' = tc_qs b' L) → tc_RS C T Q (k b) (k' b) → (∀ b', b' ≠ b → k' b' = k b') → post u') →
    ∀ u, tc_RX C B T S k m L u → match u with | (f_caches, f_blocks, f_tokens, f_slots, hA, oA, cA, bA, sA, qA, pA, hQ, lQ, wA, mj, mt, mb, mw, ms, mc, mo, md) => wX_completeQueue_9 post (nI b) (nI N) (Q.length + 1) (nI i) f_caches f_blocks f_tokens f_slots hA oA cA bA sA qA pA hQ lQ wA mj mt mb mw ms mc mo md
  | [], i, k, m, L, hZ, hq, hi, H => by
    have hi : i = N := by simpa using hi
    subst hi
    refine tc_RXi ?_
    intro hA oA cA bA sA qA pA hQ lQ wA mj mt mb mw ms mc mo md hN hQ' hM
    exact br_t (Int32.le_refl _) (H k m L _ hZ ⟨rfl, rfl, rfl, rfl, hN, hQ', hM⟩ hq (fun _ _ => rfl) (tc_RS_nil rfl) (fun _ _ => rfl))
  | x :: l, i, k, m, L, hZ, hq, hi, H => by
    have hi : i + (l.length + 1) = N := hi
    have hxb : x.1 = b := (tc_qs_mem.mp (show x ∈ tc_qs b L by rw [hq]; exact List.mem_cons_self)).2
    obtain ⟨xb, n, w⟩ := x
    simp only at hxb
    subst xb
    obtain ⟨f1, f2, f3, f4, f5, f6, f7, f8⟩ := tc_fstep hc hb hZ hq
    obtain ⟨d1, d2, d3⟩ := tc_fdrain hc hb hZ hq
    have hhd : tc_hd b L = n := by rw [tc_hd_qs, hq]; rfl
    have eqt : tc_qs b (tc_rm b L) = l := by rw [tc_qs_rm, hq]; rfl
    have ih := tx_cq9 hc hb hK hN4 l (i + 1) _ _ (tc_rm b L) d1 eqt (by omega) (fun k' m' L' u' g1 g2 g3 g4 g5 g6 => H k' m' L' u' g1 g2 g3 (fun b' e => (g4 b' e).trans (tc_qs_rmn e L)) (d3 _ g5) (fun b' e => (g6 b' e).trans (d2 b' e)))
    have hc' := hc
    obtain ⟨c1, c2, b1, b2, t1, t2, s1, s2⟩ := hc
    refine tc_RXi ?_
    intro hA oA cA bA sA qA pA hQ lQ wA mj mt mb mw ms mc mo md hN hQ' hM
    have R : tc_RX C B T S k m L (nI C, nI B, nI T, nI S, hA, oA, cA, bA, sA, qA, pA, hQ, lQ, wA, mj, mt, mb, mw, ms, mc, mo, md) := ⟨rfl, rfl, rfl, rfl, hN, hQ', hM⟩
    refine br_f (nI_ge (by omega) (by omega)) ?_
    refine tx_headOf hc' hb hZ.2.1 R ?_
    rw [hhd, tc_nzl (by omega)]
    refine tx_finish hc' f1 hb hK hZ.1.1 hZ.2.1 hq f2 f3 R ?_
    clear hN hQ' hM R
    refine tc_RXi ?_
    intro hA oA cA bA sA qA pA hQ lQ wA mj mt mb mw ms mc mo md hN hQ' hM
    refine tx_drain hc' (by omega) f4.1 ⟨rfl, rfl, rfl, rfl, hN, hQ', hM⟩ ?_
    clear hN hQ' hM
    refine tc_RXi ?_
    intro hA oA cA bA sA qA pA hQ lQ wA mj mt mb mw ms mc mo md hN hQ' hM
    exact nm_r (nI_1 i) (ih (nI C, nI B, nI T, nI S, hA, oA, cA, bA, sA, qA, pA, hQ, lQ, wA, mj, mt, mb, mw, ms, mc, mo, md) ⟨rfl, rfl, rfl, rfl, hN, hQ', hM⟩)
theorem tx_completeQueue {post : SX → Prop} {u : SX} (hc : tc_CF C B T S) (hb : b < B) (hK : K + 1 < 9999) (hZ : tc_Z C B T S K k m L) (hR : tc_RX C B T S k m L u)
    (H : ∀ k' m' L' u', tc_Z C B T S K k' m' L' → tc_RX C B T S k' m' L' u' → tc_qs b L' = [] → (∀ b', b' ≠ b → tc_qs b' L' = tc_qs b' L) → tc_RS C T (tc_qs b L) (k b) (k' b) → (∀ b', b' ≠ b → k' b' = k b') → post u') : wpX_completeQueue post u (nI b) := by
  have hc' := hc
  obtain ⟨c1, c2, b1, b2, t1, t2, s1, s2⟩ := hc
  refine tc_RXe (P := fun u => wpX_completeQueue post u (nI b)) ?_ hR
  intro hA oA cA bA sA qA pA hQ lQ wA mj mt mb mw ms mc mo md hN hQ' hM
  obtain ⟨hh, y1, y2, y3, y4⟩ := hQ' b hb
  have hql := tc_qs_len c2 hZ.2.1 b
  refine ⟨tc_vin (by omega) (by omega), nm_r (by rw [tc_cl (by omega), y3]) ⟨_, tx_cq9 (N := (tc_qs b L).length) hc' hb hK (by omega) (tc_qs b L) 0 k m L hZ rfl (by omega) H (nI C, nI B, nI T, nI S, hA, oA, cA, bA, sA, qA, pA, hQ, lQ, wA, mj, mt, mb, mw, ms, mc, mo, md) ⟨rfl, rfl, rfl, rfl, hN, hQ', hM⟩⟩⟩
theorem tx_ca20 {post : SX → Prop} {t0 : Nat} {hA oA cA bA sA qA pA hQ lQ wA mj mt mb mw ms mc mo md : Nat → Int32} (hc : tc_CF C B T S) (hb : b < B)
    (H : ∀ bA' sA' : Nat → Int32, (∀ n, n ≤ C → bA' (b * 5 + n) = -2 ∧ sA' (b * 5 + n) = nI t0) → (∀ b' n, b' ≠ b → n ≤ C → bA' (b' * 5 + n) = bA (b' * 5 + n) ∧ sA' (b' * 5 + n) = sA (b' * 5 + n)) →
      post (nI C, nI B, nI T, nI S, hA, oA, cA, bA', sA', qA, pA, hQ, lQ, wA, mj, mt, mb, mw, ms, mc, mo, md)) :
    ∀ f i (bA' sA' : Nat → Int32), i + f = C + 1 → (∀ n, n < i → bA' (b * 5 + n) = -2 ∧ sA' (b * 5 + n) = nI t0) → (∀ b' n, b' ≠ b → n ≤ C → bA' (b' * 5 + n) = bA (b' * 5 + n) ∧ sA' (b' * 5 + n) = sA (b' * 5 + n)) →
    wX_calm_20 post (nI b) (nI t0) (nI C) (nI B) (nI T) (nI S) (f + 1) (nI i) hA oA cA bA' sA' qA pA hQ lQ wA mj mt mb mw ms mc mo md
  | 0, i, bA', sA', h, h1, h2 => by
    obtain ⟨c1, c2, b1, b2, t1, t2, s1, s2⟩ := hc
    exact br_t (nI_lt (by omega) (by omega)) (H bA' sA' (fun n hn => h1 n (by omega)) h2)
  | f + 1, i, bA', sA', h, h1, h2 => by
    have hc' := hc
    obtain ⟨c1, c2, b1, b2, t1, t2, s1, s2⟩ := hc
    refine br_f (nI_nlt (by omega) (by omega)) ?_
    simp (disch := omega) only [wpX_cell, tc_c5, tc_vin, tc_cl, true_and, forall_eq, nI_1]
    refine tx_ca20 hc' hb H f (i + 1) _ _ (by omega) (fun n hn => ?_) (fun b' n hb' hn => ?_)
    · by_cases e : n = i
      · rw [e, pk_us, pk_us]; exact ⟨rfl, rfl⟩
      · rw [pk_un (by omega), pk_un (by omega)]; exact h1 n (by omega)
    · rw [tc_ux hb' (by omega) (by omega), tc_ux hb' (by omega) (by omega)]; exact h2 b' n hb' hn
theorem tx_calm {post : SX → Prop} {u : SX} (hc : tc_CF C B T S) (hb : b < B) (hR : tc_RX C B T S k m L u)
    (H : ∀ u', tc_RX C B T S (tc_f1 k b (tc_ca C (k b))) m L u' → post u') : wpX_calm post u (nI b) := by
  have hc' := hc
  obtain ⟨c1, c2, b1, b2, t1, t2, s1, s2⟩ := hc
  refine tc_RXe (P := fun u => wpX_calm post u (nI b)) ?_ hR
  intro hA oA cA bA sA qA pA hQ lQ wA mj mt mb mw ms mc mo md hN hQ' hM
  have g5 : sA (b * 5 + C) = nI ((k b).2.2.2.1 C) := ((hN b hb).2 C (Nat.le_refl C)).2.2.2.2
  simp (disch := omega) only [wpX_calm, wpX_cell, tc_c5, tc_vin, tc_cl, g5, true_and, forall_eq]
  refine ⟨C + 1 + 1, tx_ca20 hc' hb (fun bA' sA' g1 g2 => ?_) (C + 1) 0 bA sA (by omega) (fun n hn => by omega) (fun _ _ _ _ => ⟨rfl, rfl⟩)⟩
  refine H _ ⟨rfl, rfl, rfl, rfl, tc_XN_b hN (hN b hb).1 (fun n hn => ?_) (fun b' n _ hb' hn => ⟨rfl, rfl, rfl, rfl, (g2 b' n hb' hn).1, (g2 b' n hb' hn).2⟩), hQ', fun s hs => tc_XM_k (S := S) (fun _ => tc_keepmv rfl Iff.rfl) (hM s hs)⟩
  have g := (hN b hb).2 n hn
  refine ⟨g.1, g.2.1, g.2.2.1, ?_, (g1 n hn).2⟩
  rw [(g1 n hn).1]; exact tc_nzN.symm
end
end
section
/-! absorb, and Y's taking in -/
def tc_ab (s : Nat) (L : tc_QL) (k : Nat → tc_BS) (m : Nat → tc_MG) : (Nat → tc_BS) × (Nat → tc_MG) :=
  if (m s).1 = 0 then (k, m)
  else if (m s).1 = 1 ∨ (m s).1 = 2 then (k, tc_f1 m s tc_EMP)
  else if tc_hd (m s).2.2.1 L ≠ 9999 then (k, m)
  else if (m s).1 = 3 then (tc_f1 k (m s).2.2.1 (tc_tB s (m s).2.1 (m s).2.2.2.2.2 (k (m s).2.2.1)), tc_f1 m s tc_EMP)
  else (k, tc_f1 m s tc_EMP)
def tc_yb (s : Nat) (k : Nat → tc_BS) (m : Nat → tc_MG) : (Nat → tc_BS) × (Nat → tc_MG) :=
  if (m s).1 = 3 then (tc_f1 k (m s).2.2.1 (tc_tB s (m s).2.1 (m s).2.2.2.2.2 (k (m s).2.2.1)), tc_f1 m s tc_EMP) else (k, tc_f1 m s tc_EMP)
def tc_al (L : tc_QL) (k : Nat → tc_BS) (m : Nat → tc_MG) : Nat → (Nat → tc_BS) × (Nat → tc_MG)
  | 0 => (k, m)
  | j + 1 => tc_ab j L (tc_al L k m j).1 (tc_al L k m j).2
def tc_yl (k : Nat → tc_BS) (m : Nat → tc_MG) : Nat → (Nat → tc_BS) × (Nat → tc_MG)
  | 0 => (k, m)
  | j + 1 => tc_yb j (tc_yl k m j).1 (tc_yl k m j).2
section
variable {C B T S K : Nat} {k : Nat → tc_BS} {m : Nat → tc_MG} {L l : tc_QL} {s b n d h y st : Nat} {w v : Int32}
theorem tc_tB_2 (s d : Nat) (v : Int32) (q : tc_BS) : (tc_tB s d v q).2.2 = q.2.2 := rfl
theorem tc_take_W (hC : C ≤ 4) (hs : s < S) (hm : m s = (3, d, b, y, st, v)) (hW : tc_W0 C B T S K k m) : b < B ∧ d ≤ C ∧ tc_W0 C B T S K (tc_f1 k b (tc_tB s d v (k b))) (tc_f1 m s tc_EMP) := by
  have hWm := hW.2 s hs
  rw [hm] at hWm
  rcases hWm with g | ⟨hb, hd, g⟩
  · exact absurd (congrArg (fun r : tc_MG => r.1) g) (show ¬ (3 : Nat) = 0 by decide)
  have g4 : 0 < tc_ct (k b).1 (8 + s) T := by
    rcases g with g | g | g
    · omega
    · exact g.2.2.2
    · omega
  have hWb := hW.1 b hb
  refine ⟨hb, hd, ?_⟩
  rcases hk : k b with ⟨p, c, e, t, w⟩
  rw [hk] at hWb g4
  obtain ⟨gp, gt, ge, gc⟩ := hWb
  refine tc_locW hW (fun _ => by rw [hm]) ⟨tc_Wp_take gp hd, gt, ge, tc_Wc_take hC gc hd g4⟩ (Or.inl rfl) (fun s' _ z _ _ => ?_) ?_
  · rw [hk]; exact tc_ct_mvn (by omega) (by omega) T
  · rw [hk]; exact Nat.le_refl _
theorem tc_clr_W (h3 : (m s).1 ≠ 3) (hW : tc_W0 C B T S K k m) : tc_W0 C B T S K k (tc_f1 m s tc_EMP) := by
  refine ⟨fun b' hb' => ?_, fun s' hs' => ?_⟩
  · have := hW.1 b' hb'
    revert this
    rcases k b' with ⟨p, c, e, t, w⟩
    intro g
    exact ⟨tc_Wp_keep g.1 h3, g.2⟩
  · by_cases e : s' = s
    · rw [e, tc_f1s]; exact Or.inl rfl
    · rw [tc_f1n e]; exact hW.2 s' hs'
def tc_PP (C B T S : Nat) (k : Nat → tc_BS) (m : Nat → tc_MG) (L : tc_QL) : Prop := ∀ b, b < B → tc_hd b L ≠ 9999 → tc_PB C T S m (tc_hd b L) b (k b)
theorem tc_ab_ok (hC : C ≤ 4) (hs : s < S) (hW : tc_W0 C B T S K k m) (hP : tc_PP C B T S k m L) : tc_W0 C B T S K (tc_ab s L k m).1 (tc_ab s L k m).2 ∧ tc_PP C B T S (tc_ab s L k m).1 (tc_ab s L k m).2 L ∧
    (((tc_ab s L k m).2 s).1 = 0 ∨ ((((tc_ab s L k m).2 s).1 = 3 ∨ ((tc_ab s L k m).2 s).1 = 4) ∧ tc_hd ((tc_ab s L k m).2 s).2.2.1 L ≠ 9999)) ∧ (∀ s', s' ≠ s → (tc_ab s L k m).2 s' = m s') ∧ ∀ b, ((tc_ab s L k m).1 b).2.2 = (k b).2.2 := by
  have hk5 := tc_kd5 hW s hs
  unfold tc_ab
  by_cases h0 : (m s).1 = 0
  · rw [if_pos h0]; exact ⟨hW, hP, Or.inl h0, fun _ _ => rfl, fun _ => rfl⟩
  rw [if_neg h0]
  by_cases h12 : (m s).1 = 1 ∨ (m s).1 = 2
  · rw [if_pos h12]
    dsimp only
    have W := tc_put_W (C := C) (B := B) (T := T) (S := S) (K := K) (k := k) (m := m) (s := s) (y := tc_EMP) (by omega) (by omega) (by decide) (Or.inl rfl) hW
    exact ⟨W.1, fun b hb z => W.2 b _ _ (hP b hb z), Or.inl (by rw [tc_f1s]; rfl), fun s' z => tc_f1n z, fun _ => rfl⟩
  rw [if_neg h12]
  by_cases hh : tc_hd (m s).2.2.1 L ≠ 9999
  · rw [if_pos hh]
    dsimp only
    exact ⟨hW, hP, Or.inr ⟨by omega, hh⟩, fun _ _ => rfl, fun _ => rfl⟩
  rw [if_neg hh]
  have hne : ∀ b, tc_hd b L ≠ 9999 → b ≠ (m s).2.2.1 := fun b z e => hh (by rw [← e]; exact z)
  by_cases h3 : (m s).1 = 3
  · rw [if_pos h3]
    rcases hm : m s with ⟨a, d, b, y, st, v⟩
    rw [hm] at h3 hne
    simp only at h3 hne ⊢
    subst h3
    obtain ⟨hb, hd, W⟩ := tc_take_W hC hs hm hW
    refine ⟨W, fun b' hb' z => ?_, Or.inl (by rw [tc_f1s]; rfl), fun s' z => tc_f1n z, fun b' => ?_⟩
    · rw [tc_f1n (hne b' z)]
      exact tc_PB_other (hne b' z) (fun q => by rw [hm]) (fun q => absurd q (by decide)) (hP b' hb' z)
    · by_cases e : b' = b
      · rw [e, tc_f1s]; rfl
      · rw [tc_f1n e]
  · rw [if_neg h3]
    dsimp only
    refine ⟨tc_clr_W h3 hW, fun b' hb' z => ?_, Or.inl (by rw [tc_f1s]; rfl), fun s' z => tc_f1n z, fun _ => rfl⟩
    exact tc_PB_other (hne b' z) (fun q => rfl) (fun q => absurd q (by decide)) (hP b' hb' z)
theorem tc_al_ok (hC : C ≤ 4) (hW : tc_W0 C B T S K k m) (hP : tc_PP C B T S k m L) : ∀ j, j ≤ S → tc_W0 C B T S K (tc_al L k m j).1 (tc_al L k m j).2 ∧ tc_PP C B T S (tc_al L k m j).1 (tc_al L k m j).2 L ∧
    (∀ s, s < j → ((tc_al L k m j).2 s).1 = 0 ∨ ((((tc_al L k m j).2 s).1 = 3 ∨ ((tc_al L k m j).2 s).1 = 4) ∧ tc_hd ((tc_al L k m j).2 s).2.2.1 L ≠ 9999)) ∧ (∀ s, j ≤ s → (tc_al L k m j).2 s = m s) ∧ ∀ b, ((tc_al L k m j).1 b).2.2 = (k b).2.2
  | 0, _ => ⟨hW, hP, fun s hs => by omega, fun _ _ => rfl, fun _ => rfl⟩
  | j + 1, hj => by
    obtain ⟨i1, i2, i3, i4, i5⟩ := tc_al_ok hC hW hP j (by omega)
    obtain ⟨a1, a2, a3, a4, a5⟩ := tc_ab_ok hC (show j < S by omega) i1 i2
    simp only [tc_al]
    refine ⟨a1, a2, fun s hs => ?_, fun s hs => ?_, fun b => (a5 b).trans (i5 b)⟩
    · by_cases e : s = j
      · rw [e]; exact a3
      · rw [a4 s e]; exact i3 s (by omega)
    · rw [a4 s (by omega)]; exact i4 s (by omega)
theorem tc_yl_ok (hC : C ≤ 4) (hW : tc_W0 C B T S K k m) : ∀ j, j ≤ S → tc_W0 C B T S K (tc_yl k m j).1 (tc_yl k m j).2 ∧ (∀ s, s < j → (tc_yl k m j).2 s = tc_EMP) ∧ (∀ s, j ≤ s → (tc_yl k m j).2 s = m s) ∧ ∀ b, ((tc_yl k m j).1 b).2.2 = (k b).2.2
  | 0, _ => ⟨hW, fun s hs => by omega, fun _ _ => rfl, fun _ => rfl⟩
  | j + 1, hj => by
    obtain ⟨i1, i2, i3, i4⟩ := tc_yl_ok hC hW j (by omega)
    simp only [tc_yl]
    unfold tc_yb
    have fs : ∀ s, s < j + 1 → tc_f1 (tc_yl k m j).2 j tc_EMP s = tc_EMP := by
      intro s hs
      by_cases e : s = j
      · rw [e, tc_f1s]
      · rw [tc_f1n e]; exact i2 s (by omega)
    have fl : ∀ s, j + 1 ≤ s → tc_f1 (tc_yl k m j).2 j tc_EMP s = m s := by
      intro s hs
      rw [tc_f1n (by omega)]; exact i3 s (by omega)
    by_cases h3 : ((tc_yl k m j).2 j).1 = 3
    · rw [if_pos h3]
      rcases hm : (tc_yl k m j).2 j with ⟨a, d, b, y, st, v⟩
      rw [hm] at h3
      simp only at h3 ⊢
      subst h3
      obtain ⟨hb, hd, W⟩ := tc_take_W hC (show j < S by omega) hm i1
      refine ⟨W, fs, fl, fun b' => ?_⟩
      by_cases e : b' = b
      · rw [e, tc_f1s]; exact i4 b
      · rw [tc_f1n e]; exact i4 b'
    · rw [if_neg h3]
      exact ⟨tc_clr_W h3 i1, fs, fl, i4⟩
/-- both sides take in alike where nobody queues -/
theorem tc_ay : ∀ j, j ≤ S → (C ≤ 4) → tc_W0 C B T S K k m → tc_PP C B T S k m L → ∀ b, tc_hd b L = 9999 → ((tc_al L k m j).1 b).1 = ((tc_yl k m j).1 b).1 ∧ ((tc_al L k m j).1 b).2.1 = ((tc_yl k m j).1 b).2.1
  | 0, _, _, _, _, b, _ => ⟨rfl, rfl⟩
  | j + 1, hj, hC, hW, hP, b, hb => by
    obtain ⟨e1, e2⟩ := tc_ay j (by omega) hC hW hP b hb
    have a4 := (tc_al_ok hC hW hP j (by omega)).2.2.2.1 j (Nat.le_refl j)
    have y4 := (tc_yl_ok hC hW j (by omega)).2.2.1 j (Nat.le_refl j)
    have hk5 := tc_kd5 hW j (by omega)
    simp only [tc_al, tc_yl]
    unfold tc_ab tc_yb
    rw [a4, y4]
    by_cases h0 : (m j).1 = 0
    · rw [if_pos h0, if_neg (by omega)]; exact ⟨e1, e2⟩
    rw [if_neg h0]
    by_cases h12 : (m j).1 = 1 ∨ (m j).1 = 2
    · rw [if_pos h12, if_neg (by omega)]; exact ⟨e1, e2⟩
    rw [if_neg h12]
    by_cases hh : tc_hd (m j).2.2.1 L ≠ 9999
    · rw [if_pos hh]
      by_cases h3 : (m j).1 = 3
      · rw [if_pos h3]
        dsimp only
        have eb : b ≠ (m j).2.2.1 := fun z => hh (by rw [← z]; exact hb)
        rw [tc_f1n eb]
        exact ⟨e1, e2⟩
      · rw [if_neg h3]; exact ⟨e1, e2⟩
    · rw [if_neg hh]
      by_cases h3 : (m j).1 = 3
      · rw [if_pos h3, if_pos h3]
        dsimp only
        by_cases e : b = (m j).2.2.1
        · rw [← e, tc_f1s, tc_f1s]
          exact ⟨by show tc_mv _ _ _ = tc_mv _ _ _; rw [e1], by show (if _ then _ else _) = (if _ then _ else _); rw [e2]⟩
        · rw [tc_f1n e, tc_f1n e]; exact ⟨e1, e2⟩
      · rw [if_neg h3, if_neg h3]; exact ⟨e1, e2⟩
theorem tx_absorb {post : SX → Prop} {u : SX} (hc : tc_CF C B T S) (hs : s < S) (hW : tc_W0 C B T S K k m) (hL : tc_LO C B L) (hR : tc_RX C B T S k m L u)
    (H : ∀ u', tc_RX C B T S (tc_ab s L k m).1 (tc_ab s L k m).2 L u' → post u') : wpX_absorb post u (nI s) := by
  have hc' := hc
  obtain ⟨c1, c2, b1, b2, t1, t2, s1, s2⟩ := hc
  have hk5 := tc_kd5 hW s hs
  have hR0 := hR
  refine tc_RXe (P := fun u => tc_RX C B T S k m L u → wpX_absorb post u (nI s)) ?_ hR hR0
  intro hA oA cA bA sA qA pA hQ lQ wA mj mt mb mw ms mc mo md hN hQ' hM hR'
  have ec : (nI s).toNatClampNeg = s := tc_cl (by omega)
  have v32 : vp_in (nI s) 32 := tc_vin (by omega) (by omega)
  have g := hM s hs
  unfold tc_ab at H
  refine ⟨v32, ?_⟩
  rw [ec, g.1]
  by_cases h0 : (m s).1 = 0
  · rw [if_pos h0] at H
    exact br_t ((tc_eq0 (by omega)).mpr h0) (H _ hR')
  rw [if_neg h0] at H
  refine br_f (fun z => h0 ((tc_eq0 (by omega)).mp z)) ?_
  unfold wpX_isRequest
  dsimp only
  refine ⟨v32, ?_⟩
  rw [ec, g.1]
  by_cases h1 : (m s).1 = 1
  · rw [if_pos (Or.inl h1)] at H
    exact br_t ((tc_eq1 (by omega)).mpr h1) (br_f (by decide) (tx_clear hc' hs hR' H))
  refine br_f (fun z => h1 ((tc_eq1 (by omega)).mp z)) ⟨v32, ?_⟩
  by_cases h2 : (m s).1 = 2
  · rw [if_pos (Or.inr h2)] at H
    exact br_t ((tc_eq2 (by omega)).mpr h2) (br_f (by decide) (tx_clear hc' hs hR' H))
  refine br_f (fun z => h2 ((tc_eq2 (by omega)).mp z)) (br_t rfl ⟨v32, ?_⟩)
  rw [if_neg (by omega)] at H
  have hWm := hW.2 s hs
  have hbk : (m s).2.2.1 < B := by
    revert hWm h0
    rcases m s with ⟨a, d, b, y, st, v⟩
    intro h0 hWm
    rcases hWm with z | z
    · exact absurd (congrArg (fun r : tc_MG => r.1) z) h0
    · exact z.1
  obtain ⟨hh, y1, y2, y3, y4⟩ := hQ' _ hbk
  have hql := tc_qs_len c2 hL (m s).2.2.1
  have g3 : mb s = nI (m s).2.2.1 := by rw [g.2.2.1]; exact tc_nzl (by omega)
  rw [g3, tc_cl (by omega), y3]
  refine ⟨tc_vin (by omega) (by omega), ?_⟩
  by_cases h9 : tc_hd (m s).2.2.1 L = 9999
  · rw [if_neg (fun z => z h9)] at H
    have hq : tc_qs (m s).2.2.1 L = [] := (tc_hd_9 c2 hL).mp h9
    refine br_t (by rw [hq]; decide) ⟨v32, ?_⟩
    by_cases h3 : (m s).1 = 3
    · rw [if_pos h3] at H
      refine br_t ((tc_eq3 (by omega)).mpr h3) ?_
      rcases hm : m s with ⟨a, d, b, y, st, v⟩
      rw [hm] at h3 H
      simp only at h3 H
      subst h3
      obtain ⟨hb, hd, W⟩ := tc_take_W c2 hs hm hW
      exact tx_takeIn hc' hs hb hd hm hR' H
    · rw [if_neg h3] at H
      exact br_f (fun z => h3 ((tc_eq3 (by omega)).mp z)) (tx_clear hc' hs hR' H)
  · rw [if_pos h9] at H
    have hq : 0 < (tc_qs (m s).2.2.1 L).length := List.length_pos_iff.mpr (fun z => h9 ((tc_hd_9 c2 hL).mpr z))
    exact br_f (nI_nle hq (by omega)) (H _ hR')
end
end
section
/-! X: settle -/
def tc_sl (L : tc_QL) : Nat → Nat
  | 0 => 0
  | b + 1 => tc_sl L b + (tc_qs b L).length
theorem tc_sl_cons (x : Nat × Nat × Int32) (L : tc_QL) : ∀ j, tc_sl (x :: L) j = tc_sl L j + (if x.1 < j then 1 else 0)
  | 0 => rfl
  | j + 1 => by
    simp only [tc_sl]
    rw [tc_sl_cons x L j, tc_qs_cons]
    by_cases e : x.1 = j
    · rw [if_pos e, if_neg (by omega), if_pos (by omega), List.length_cons]; omega
    · rw [if_neg e]
      by_cases h : x.1 < j
      · rw [if_pos h, if_pos (by omega)]; omega
      · rw [if_neg h, if_neg (by omega)]; omega
theorem tc_sl_len {B : Nat} : ∀ L : tc_QL, (∀ x, x ∈ L → x.1 < B) → tc_sl L B = L.length
  | [], _ => by
    have : ∀ j, tc_sl [] j = 0 := by
      intro j
      induction j with
      | zero => rfl
      | succ j ih => simp only [tc_sl, ih]; rfl
    rw [this]; rfl
  | x :: L, h => by
    rw [tc_sl_cons, if_pos (h x List.mem_cons_self), tc_sl_len L (fun y hy => h y (List.mem_cons_of_mem _ hy)), List.length_cons]
theorem tc_L_nil {C B : Nat} {L : tc_QL} (hL : tc_LO C B L) (h : ∀ b, b < B → tc_qs b L = []) : L = [] := by
  cases L with
  | nil => rfl
  | cons x l =>
    have h1 := (hL.1 x List.mem_cons_self).1
    have h2 : x ∈ tc_qs x.1 (x :: l) := tc_qs_mem.mpr ⟨List.mem_cons_self, rfl⟩
    rw [h x.1 h1] at h2
    simp at h2
theorem tc_calm_Z {C B T S K b : Nat} {k : Nat → tc_BS} {m : Nat → tc_MG} {L : tc_QL} (hZ : tc_Z C B T S K k m L) (hb : b < B) (hh : tc_hd b L = 9999) : tc_Z C B T S K (tc_f1 k b (tc_ca C (k b))) m L := by
  obtain ⟨⟨hW, hP, hG⟩, hL, hE, hT⟩ := hZ
  refine ⟨⟨⟨fun b' hb' => ?_, fun s hs => ?_⟩, fun b' hb' z => ?_, hG⟩, hL, hE, fun b' hb' => ?_⟩
  · by_cases e : b' = b
    · subst e
      rw [tc_f1s]
      have := hW.1 b' hb'
      revert this
      rcases k b' with ⟨p, c, e, t, w⟩
      intro g
      exact ⟨g.1, ⟨fun n hn => Nat.le_refl _, g.2.1.2⟩, fun n hn => Or.inr rfl, g.2.2.2⟩
    · rw [tc_f1n e]; exact hW.1 b' hb'
  · rw [hE s hs]; exact Or.inl rfl
  · have e : b' ≠ b := fun q => z (by rw [q]; exact hh)
    rw [tc_f1n e]; exact hP b' hb' z
  · by_cases e : b' = b
    · subst e; rw [tc_f1s]; exact hT b' hb'
    · rw [tc_f1n e]; exact hT b' hb'
/-- what settle leaves of a block -/
def tc_CM (C : Nat) (q : tc_BS) : Prop := ∀ n, n ≤ C → q.2.2.1 n = 9999 ∧ q.2.2.2.1 n = q.2.2.2.1 C
section
variable {C B T S K : Nat} {k k1 : Nat → tc_BS} {m : Nat → tc_MG} {L : tc_QL} {s b n d h y st : Nat} {w : Int32} {post : Int32 → SX → Prop} {x1 : Int32}
theorem tx_se54 (hc : tc_CF C B T S) (hK : K + 1 < 9999)
    (H : ∀ kf mf u', tc_W0 C B T S K kf mf → (∀ s, s < S → mf s = tc_EMP) → (∀ b, b < B → tc_RS C T (tc_qs b L) (k1 b) (kf b) ∧ tc_CM C (kf b)) → tc_RX C B T S kf mf [] u' → post x1 u') :
    ∀ f j (kj : Nat → tc_BS) (mj' : Nat → tc_MG) (Lj : tc_QL), j + f = B → tc_Z C B T S K kj mj' Lj → (∀ b, b < j → tc_qs b Lj = [] ∧ tc_RS C T (tc_qs b L) (k1 b) (kj b) ∧ tc_CM C (kj b)) → (∀ b, j ≤ b → kj b = k1 b ∧ tc_qs b Lj = tc_qs b L) →
    ∀ u, tc_RX C B T S kj mj' Lj u → match u with | (f_caches, f_blocks, f_tokens, f_slots, hA, oA, cA, bA, sA, qA, pA, hQ, lQ, wA, mj, mt, mb, mw, ms, mc, mo, md) => wX_settle_54 post x1 (f + 1) (nI j) f_caches f_blocks f_tokens f_slots hA oA cA bA sA qA pA hQ lQ wA mj mt mb mw ms mc mo md
  | 0, j, kj, mj', Lj, hj, hZ, h1, h2 => by
    obtain ⟨c1, c2, b1, b2, t1, t2, s1, s2⟩ := hc
    have : j = B := by omega
    subst this
    have hn : Lj = [] := tc_L_nil hZ.2.1 (fun b hb => (h1 b hb).1)
    subst hn
    refine tc_RXi ?_
    intro hA oA cA bA sA qA pA hQ lQ wA mj mt mb mw ms mc mo md hN hQ' hM
    exact br_t (Int32.le_refl _) (H kj mj' _ hZ.1.1 hZ.2.2.1 (fun b hb => (h1 b hb).2) ⟨rfl, rfl, rfl, rfl, hN, hQ', hM⟩)
  | f + 1, j, kj, mj', Lj, hj, hZ, h1, h2 => by
    have hc' := hc
    obtain ⟨c1, c2, b1, b2, t1, t2, s1, s2⟩ := hc
    refine tc_RXi ?_
    intro hA oA cA bA sA qA pA hQ lQ wA mj mt mb mw ms mc mo md hN hQ' hM
    refine br_f (nI_ge (by omega) (by omega)) (tx_completeQueue hc' (show j < B by omega) hK hZ ⟨rfl, rfl, rfl, rfl, hN, hQ', hM⟩ ?_)
    intro k' m' L' u' g1 g2 g3 g4 g5 g6
    have g7 : tc_hd j L' = 9999 := (tc_hd_9 c2 g1.2.1).mpr g3
    have Z2 := tc_calm_Z g1 (show j < B by omega) g7
    rw [(h2 j (Nat.le_refl j)).1, (h2 j (Nat.le_refl j)).2] at g5
    have ih := tx_se54 hc' hK H f (j + 1) _ _ _ (by omega) Z2 (fun b hb => by
      by_cases e : b = j
      · subst e
        rw [tc_f1s]
        exact ⟨g3, g5, fun n hn => ⟨rfl, rfl⟩⟩
      · rw [tc_f1n e, g6 b e, g4 b e]
        exact h1 b (by omega)) (fun b hb => by
      have e : b ≠ j := by omega
      rw [tc_f1n e, g6 b e, g4 b e]
      exact h2 b (by omega))
    clear hN hQ' hM
    revert u'
    refine fun u' => ?_
    revert u'
    refine tc_RXi ?_
    intro hA oA cA bA sA qA pA hQ lQ wA mj mt mb mw ms mc mo md hN hQ' hM
    refine tx_calm hc' (show j < B by omega) ⟨rfl, rfl, rfl, rfl, hN, hQ', hM⟩ ?_
    clear hN hQ' hM
    refine tc_RXi ?_
    intro hA oA cA bA sA qA pA hQ lQ wA mj mt mb mw ms mc mo md hN hQ' hM
    exact nm_r (nI_1 j) (ih (nI C, nI B, nI T, nI S, hA, oA, cA, bA, sA, qA, pA, hQ, lQ, wA, mj, mt, mb, mw, ms, mc, mo, md) ⟨rfl, rfl, rfl, rfl, hN, hQ', hM⟩)
theorem tx_se29 (hc : tc_CF C B T S) (hK : K < 9999) (hW : tc_W0 C B T S K k m) (hP : tc_PP C B T S k m L) (hL : tc_LO C B L)
    (H : ∀ u', tc_RX C B T S (tc_dr T S (tc_al L k m S).1 (tc_al L k m S).2 3).1 (tc_dr T S (tc_al L k m S).1 (tc_al L k m S).2 3).2 L u' → match u' with | (f_caches, f_blocks, f_tokens, f_slots, hA, oA, cA, bA, sA, qA, pA, hQ, lQ, wA, mj, mt, mb, mw, ms, mc, mo, md) => wX_settle_54 post x1 (B + 1) (nI 0) f_caches f_blocks f_tokens f_slots hA oA cA bA sA qA pA hQ lQ wA mj mt mb mw ms mc mo md) :
    ∀ f j, j + f = S → ∀ u, tc_RX C B T S (tc_al L k m j).1 (tc_al L k m j).2 L u → match u with | (f_caches, f_blocks, f_tokens, f_slots, hA, oA, cA, bA, sA, qA, pA, hQ, lQ, wA, mj, mt, mb, mw, ms, mc, mo, md) => wX_settle_29 post x1 (f + 1) (nI j) f_caches f_blocks f_tokens f_slots hA oA cA bA sA qA pA hQ lQ wA mj mt mb mw ms mc mo md
  | 0, j, hj => by
    have hc' := hc
    obtain ⟨c1, c2, b1, b2, t1, t2, s1, s2⟩ := hc
    have ej : j = S := by omega
    rw [ej]
    have A := tc_al_ok c2 hW hP S (Nat.le_refl S)
    refine tc_RXi ?_
    intro hA oA cA bA sA qA pA hQ lQ wA mj mt mb mw ms mc mo md hN hQ' hM
    refine br_t (Int32.le_refl _) (tx_drain hc' hK A.1 ⟨rfl, rfl, rfl, rfl, hN, hQ', hM⟩ ?_)
    clear hN hQ' hM
    refine tc_RXi ?_
    intro hA oA cA bA sA qA pA hQ lQ wA mj mt mb mw ms mc mo md hN hQ' hM
    exact ⟨B + 1, H (nI C, nI B, nI T, nI S, hA, oA, cA, bA, sA, qA, pA, hQ, lQ, wA, mj, mt, mb, mw, ms, mc, mo, md) ⟨rfl, rfl, rfl, rfl, hN, hQ', hM⟩⟩
  | f + 1, j, hj => by
    have ih := tx_se29 hc hK hW hP hL H f (j + 1) (by omega)
    have hc' := hc
    obtain ⟨c1, c2, b1, b2, t1, t2, s1, s2⟩ := hc
    have A := tc_al_ok c2 hW hP j (by omega)
    refine tc_RXi ?_
    intro hA oA cA bA sA qA pA hQ lQ wA mj mt mb mw ms mc mo md hN hQ' hM
    refine br_f (nI_ge (by omega) (by omega)) (tx_absorb hc' (show j < S by omega) A.1 hL ⟨rfl, rfl, rfl, rfl, hN, hQ', hM⟩ ?_)
    clear hN hQ' hM
    refine tc_RXi ?_
    intro hA oA cA bA sA qA pA hQ lQ wA mj mt mb mw ms mc mo md hN hQ' hM
    exact nm_r (nI_1 j) (ih (nI C, nI B, nI T, nI S, hA, oA, cA, bA, sA, qA, pA, hQ, lQ, wA, mj, mt, mb, mw, ms, mc, mo, md) ⟨rfl, rfl, rfl, rfl, hN, hQ', hM⟩)
theorem tx_se4 {hA oA cA bA sA qA pA hQ lQ wA mj mt mb mw ms mc mo md : Nat → Int32} (hc : tc_CF C B T S) (hQ' : tc_XQ B L qA pA hQ lQ) (H : ∃ n29 : Nat, wX_settle_29 post (nI (tc_sl L B)) n29 0 (nI C) (nI B) (nI T) (nI S) hA oA cA bA sA qA pA hQ lQ wA mj mt mb mw ms mc mo md) : ∀ f j, j + f = B →
    wX_settle_4 post (nI C) (nI B) (nI T) (nI S) hA oA cA bA sA qA pA hQ lQ wA mj mt mb mw ms mc mo md (f + 1) (nI (tc_sl L j)) (nI j)
  | 0, j, hj => by
    have : j = B := by omega
    subst this
    exact br_t (Int32.le_refl _) H
  | f + 1, j, hj => by
    have ih : wX_settle_4 post (nI C) (nI B) (nI T) (nI S) hA oA cA bA sA qA pA hQ lQ wA mj mt mb mw ms mc mo md (f + 1) (nI (tc_sl L (j + 1))) (nI (j + 1)) := tx_se4 hc hQ' H f (j + 1) (by omega)
    have hc' := hc
    obtain ⟨c1, c2, b1, b2, t1, t2, s1, s2⟩ := hc
    obtain ⟨hh, y1, y2, y3, y4⟩ := hQ' j (by omega)
    simp only [tc_sl] at ih
    refine br_f (nI_ge (by omega) (by omega)) ⟨tc_vin (by omega) (by omega), nm_r ?_ (nm_r (nI_1 j) ih)⟩
    rw [tc_cl (by omega), y3, nI_add]
theorem tx_settle {u : SX} (hc : tc_CF C B T S) (hK : K + 1 < 9999) (hW : tc_W0 C B T S K k m) (hP : tc_PP C B T S k m L) (hL : tc_LO C B L) (hT : ∀ b, b < B → (k b).2.2.2.1 C + (tc_qs b L).length ≤ K) (hR : tc_RX C B T S k m L u)
    (H : ∀ kf mf u', tc_W0 C B T S K kf mf → (∀ s, s < S → mf s = tc_EMP) → (∀ b, b < B → ∃ q, q.2.2.2.1 C = (k b).2.2.2.1 C ∧ q.2.2.2.2 = (k b).2.2.2.2 ∧ (tc_hd b L = 9999 → q.1 = ((tc_al L k m S).1 b).1 ∧ q.2.1 = ((tc_al L k m S).1 b).2.1) ∧ tc_RS C T (tc_qs b L) q (kf b) ∧ tc_CM C (kf b)) → tc_RX C B T S kf mf [] u' → post (nI L.length) u') : wpX_settle post u := by
  have hc' := hc
  obtain ⟨c1, c2, b1, b2, t1, t2, s1, s2⟩ := hc
  obtain ⟨a1, a2, a3, a4, a5⟩ := tc_al_ok c2 hW hP S (Nat.le_refl S)
  have hV : tc_V C B T S K (tc_al L k m S).1 (tc_al L k m S).2 L := ⟨a1, a2, fun s hs => by
    rcases a3 s hs with z | ⟨z1, z2⟩
    · exact Or.inl z
    · exact Or.inr ⟨z1, fun q => absurd q z2⟩⟩
  obtain ⟨d1, d2, d3, d4⟩ := tc_drain hc' hV
  have Z0 : tc_Z C B T S K (tc_dr T S (tc_al L k m S).1 (tc_al L k m S).2 3).1 (tc_dr T S (tc_al L k m S).1 (tc_al L k m S).2 3).2 L := by
    refine ⟨d1, hL, d2, fun b hb => ?_⟩
    rw [(d3 b hb).1, a5 b]; exact hT b hb
  refine tc_RXe (P := fun u => wpX_settle post u) ?_ hR
  intro hA oA cA bA sA qA pA hQ lQ wA mj mt mb mw ms mc mo md hN hQ' hM
  refine ⟨B + 1, tx_se4 hc' hQ' ⟨S + 1, ?_⟩ B 0 (by omega)⟩
  rw [tc_sl_len L (fun x hx => (hL.1 x hx).1)]
  refine tx_se29 hc' (by omega) hW hP hL ?_ S 0 (by omega) (nI C, nI B, nI T, nI S, hA, oA, cA, bA, sA, qA, pA, hQ, lQ, wA, mj, mt, mb, mw, ms, mc, mo, md) ⟨rfl, rfl, rfl, rfl, hN, hQ', hM⟩
  refine tx_se54 (L := L) (k1 := (tc_dr T S (tc_al L k m S).1 (tc_al L k m S).2 3).1) hc' hK (fun kf mf u' g1 g2 g3 g4 => H kf mf u' g1 g2 (fun b hb => ?_) g4) B 0 _ _ L (by omega) Z0 (fun b hb => by omega) (fun b _ => ⟨rfl, rfl⟩)
  refine ⟨(tc_dr T S (tc_al L k m S).1 (tc_al L k m S).2 3).1 b, (d3 b hb).1.trans (by rw [a5 b]), (d3 b hb).2.1.trans (by rw [a5 b]), (d3 b hb).2.2, (g3 b hb).1, (g3 b hb).2⟩
end
end
section
/-! Y: settle -/
def tc_gn (cc n : Nat) (q : tc_BS) : tc_BS := (fun i => if q.1 i < n then cc else q.1 i, fun j => if j < n then -2 else q.2.1 j, q.2.2.1, fun j => if j < n then q.2.2.2.1 j + 1 else q.2.2.2.1 j, q.2.2.2.2)
def tc_gE (C cc : Nat) (v : Int32) (q : tc_BS) : tc_BS := ((tc_gn cc (C + 1) q).1, tc_f1 (tc_gn cc (C + 1) q).2.1 cc v, (tc_gn cc (C + 1) q).2.2.1, (tc_gn cc (C + 1) q).2.2.2.1, v)
theorem tc_c44 (C : Nat) : nI C * 4 + 4 = nI (C * 4 + 4) := tc_c4 C 4
theorem tc_gn_0 (cc : Nat) (q : tc_BS) : tc_gn cc 0 q = q := by
  rcases q with ⟨p, c, e, t, w⟩
  simp only [tc_gn, Nat.not_lt_zero, if_false]
theorem tc_gn_s (cc n : Nat) (q : tc_BS) : (tc_mv (tc_gn cc n q).1 n cc, tc_f1 (tc_gn cc n q).2.1 n (-2), (tc_gn cc n q).2.2.1, tc_f1 (tc_gn cc n q).2.2.2.1 n ((tc_gn cc n q).2.2.2.1 n + 1), (tc_gn cc n q).2.2.2.2) = tc_gn cc (n + 1) q := by
  rcases q with ⟨p, c, e, t, w⟩
  simp only [tc_gn]
  have h1 : tc_mv (fun i => if p i < n then cc else p i) n cc = fun i => if p i < n + 1 then cc else p i := by
    funext i
    simp only [tc_mv]
    by_cases a : p i < n
    · rw [if_pos a, if_pos (show p i < n + 1 by omega)]
      split <;> rfl
    · rw [if_neg a]
      by_cases b : p i = n
      · rw [if_pos b, if_pos (by omega)]
      · rw [if_neg b, if_neg (by omega)]
  have h2 : tc_f1 (fun j => if j < n then (-2 : Int32) else c j) n (-2) = fun j => if j < n + 1 then (-2 : Int32) else c j := by
    funext j
    by_cases a : j = n
    · rw [a, tc_f1s, if_pos (by omega)]
    · rw [tc_f1n a]
      by_cases b : j < n
      · rw [if_pos b, if_pos (by omega)]
      · rw [if_neg b, if_neg (by omega)]
  have h3 : tc_f1 (fun j => if j < n then t j + 1 else t j) n ((if n < n then t n + 1 else t n) + 1) = fun j => if j < n + 1 then t j + 1 else t j := by
    funext j
    by_cases a : j = n
    · rw [a, tc_f1s, if_neg (show ¬ n < n by omega), if_pos (show n < n + 1 by omega)]
    · rw [tc_f1n a]
      by_cases b : j < n
      · rw [if_pos b, if_pos (by omega)]
      · rw [if_neg b, if_neg (by omega)]
  rw [h1, h2, h3]
theorem tc_RS_app {C T cc b : Nat} {v : Int32} {Q : tc_QL} {q0 q : tc_BS} (hcc : cc < C) (h : tc_RS C T Q q0 q) (hp : ∀ i, i < T → q.1 i ≤ C) : tc_RS C T (Q ++ [(b, cc, v)]) q0 (tc_gE C cc v q) := by
  obtain ⟨h1, h2, h3⟩ := h
  refine ⟨?_, fun z => absurd z (by simp), fun x hx => ?_⟩
  · rw [List.length_append]
    show (if C < C + 1 then q.2.2.2.1 C + 1 else q.2.2.2.1 C) = q0.2.2.2.1 C + (Q.length + 1)
    rw [if_pos (by omega), h1]; omega
  · rw [List.getLast?_concat] at hx
    have hx : (b, cc, v) = x := Option.some.inj hx
    subst hx
    refine ⟨fun i hi => ?_, fun n hn => ?_, rfl⟩
    · show (if q.1 i < C + 1 then cc else q.1 i) = cc
      have := hp i hi
      rw [if_pos (by omega)]
    · show tc_f1 (fun j => if j < C + 1 then (-2 : Int32) else q.2.1 j) cc v n = if n = cc then v else -2
      by_cases e : n = cc
      · rw [if_pos e, e, tc_f1s]
      · rw [if_neg e, tc_f1n e, if_pos (by omega)]
section
variable {C B T S K : Nat} {k k0 kj : Nat → tc_BS} {m : Nat → tc_MG} {L : tc_QL} {s b n d h y st : Nat} {w : Int32} {post : Int32 → SY → Prop} {x1 : Int32}
theorem ty_se7 (hc : tc_CF C B T S) (hW : tc_W0 C B T S K k m)
    (H : ∀ u, tc_RY C B T S (tc_yl k m S).1 (tc_yl k m S).2 L u → match u with | (f_caches, f_blocks, f_tokens, f_slots, f_entries, pA, cA, bA, sA, wA, mj, mt, mb, mw, ms, md, qb, qc, qv) => ∃ n45 : Nat, wY_settle_45 post x1 f_caches f_blocks f_tokens f_slots f_entries n45 0 pA cA bA sA wA mj mt mb mw ms md qb qc qv) :
    ∀ f j, j + f = S → ∀ u, tc_RY C B T S (tc_yl k m j).1 (tc_yl k m j).2 L u → match u with | (f_caches, f_blocks, f_tokens, f_slots, f_entries, pA, cA, bA, sA, wA, mj, mt, mb, mw, ms, md, qb, qc, qv) => wY_settle_7 post x1 (f + 1) (nI j) f_caches f_blocks f_tokens f_slots f_entries pA cA bA sA wA mj mt mb mw ms md qb qc qv
  | 0, j, hj => by
    have ej : j = S := by omega
    rw [ej]
    refine tc_RYi ?_
    intro pA cA bA sA wA mj mt mb mw ms md qb qc qv hN hM hQ
    exact br_t (Int32.le_refl _) (H (nI C, nI B, nI T, nI S, nI L.length, pA, cA, bA, sA, wA, mj, mt, mb, mw, ms, md, qb, qc, qv) ⟨rfl, rfl, rfl, rfl, rfl, hN, hM, hQ⟩)
  | f + 1, j, hj => by
    have ih := ty_se7 hc hW H f (j + 1) (by omega)
    have hc' := hc
    obtain ⟨c1, c2, b1, b2, t1, t2, s1, s2⟩ := hc
    have A := (tc_yl_ok c2 hW j (by omega)).1
    have hk5 := tc_kd5 A j (by omega)
    simp only [tc_yl] at ih
    unfold tc_yb at ih
    refine tc_RYi ?_
    intro pA cA bA sA wA mj mt mb mw ms md qb qc qv hN hM hQ
    have R : tc_RY C B T S (tc_yl k m j).1 (tc_yl k m j).2 L (nI C, nI B, nI T, nI S, nI L.length, pA, cA, bA, sA, wA, mj, mt, mb, mw, ms, md, qb, qc, qv) := ⟨rfl, rfl, rfl, rfl, rfl, hN, hM, hQ⟩
    refine br_f (nI_ge (by omega) (by omega)) ⟨tc_vin (by omega) (by omega), ?_⟩
    rw [tc_cl (by omega), (hM j (by omega)).1]
    by_cases h3 : ((tc_yl k m j).2 j).1 = 3
    · rw [if_pos h3] at ih
      refine br_t ((tc_eq3 (by omega)).mpr h3) ?_
      rcases hm : (tc_yl k m j).2 j with ⟨a, d, b, y, st, v⟩
      rw [hm] at h3 ih
      simp only at h3 ih
      subst h3
      obtain ⟨hb, hd, W⟩ := tc_take_W c2 (show j < S by omega) hm A
      refine ty_takeIn hc' (show j < S by omega) hb hd (tc_W_p hc' A hb) hm R ?_
      clear hN hM hQ R
      refine tc_RYi ?_
      intro pA cA bA sA wA mj mt mb mw ms md qb qc qv hN hM hQ
      have hM2 := tc_YM_clr (s := j) hM
      rw [tc_ff] at hM2
      refine ⟨tc_vin (by omega) (by omega), nm_e (nm_r (nI_1 j) (ih (nI C, nI B, nI T, nI S, nI L.length, pA, cA, bA, sA, wA, upd mj j 0, mt, mb, mw, ms, md, qb, qc, qv) ⟨rfl, rfl, rfl, rfl, rfl, hN, hM2, hQ⟩))⟩
    · rw [if_neg h3] at ih
      refine br_f (fun z => h3 ((tc_eq3 (by omega)).mp z)) ⟨tc_vin (by omega) (by omega), nm_e (nm_r (nI_1 j) (ih (nI C, nI B, nI T, nI S, nI L.length, pA, cA, bA, sA, wA, upd mj j 0, mt, mb, mw, ms, md, qb, qc, qv) ⟨rfl, rfl, rfl, rfl, rfl, hN, tc_YM_clr hM, hQ⟩))⟩
theorem ty_se45 {pA cA sA wA mj mt mb mw ms md qb qc qv : Nat → Int32} (hc : tc_CF C B T S)
    (H : ∀ bA' sA' : Nat → Int32, (∀ j, j < C * 4 + 4 → bA' j = -2 ∧ sA' j = sA (C * 4 + j % 4)) → ∃ n94 : Nat, wY_settle_94 post x1 n94 0 (nI C) (nI B) (nI T) (nI S) (nI L.length) pA cA bA' sA' wA mj mt mb mw ms md qb qc qv) :
    ∀ f i (bA' sA' : Nat → Int32), i + f = C * 4 + 4 → (∀ j, j < i → bA' j = -2 ∧ sA' j = sA (C * 4 + j % 4)) → (∀ j, i ≤ j → sA' j = sA j) →
    wY_settle_45 post x1 (nI C) (nI B) (nI T) (nI S) (nI L.length) (f + 1) (nI i) pA cA bA' sA' wA mj mt mb mw ms md qb qc qv
  | 0, i, bA', sA', h, h1, h2 => by
    obtain ⟨c1, c2, b1, b2, t1, t2, s1, s2⟩ := hc
    refine br_t ?_ (H bA' sA' (fun j hj => h1 j (by omega)))
    rw [tc_c44]; exact nI_le (by omega) (by omega)
  | f + 1, i, bA', sA', h, h1, h2 => by
    have hc' := hc
    obtain ⟨c1, c2, b1, b2, t1, t2, s1, s2⟩ := hc
    refine br_f ?_ ⟨tc_vin (by omega) (by omega), nm_e ?_⟩
    · rw [tc_c44]; exact nI_ge (by omega) (by omega)
    rw [tc_and3 i (by omega), tc_c4, tc_cl (by omega), tc_cl (by omega)]
    refine ⟨tc_vin (by omega) (by omega), tc_vin (by omega) (by omega), nm_e (nm_r (nI_1 i) (ty_se45 hc' H f (i + 1) _ _ (by omega) (fun j hj => ?_) (fun j hj => ?_)))⟩
    · by_cases e : j = i
      · rw [e, pk_us, pk_us]
        exact ⟨rfl, h2 _ (by omega)⟩
      · rw [pk_un e, pk_un e]; exact h1 j (by omega)
    · rw [pk_un (by omega)]; exact h2 j (by omega)
theorem ty_se109 {J : Int32 → Int32 → Int32 → Int32 → Int32 → Int32 → (Nat → Int32) → (Nat → Int32) → (Nat → Int32) → (Nat → Int32) → (Nat → Int32) → (Nat → Int32) → (Nat → Int32) → (Nat → Int32) → (Nat → Int32) → (Nat → Int32) → (Nat → Int32) → (Nat → Int32) → (Nat → Int32) → (Nat → Int32) → Prop}
    {e cc : Nat} {v : Int32} (hc : tc_CF C B T S) (hb : b < B) (hcc : cc < C) (he : e < 16) (hx : L[e]? = some (b, cc, v)) (hp : ∀ i, i < T → (kj b).1 i ≤ C)
    (H : ∀ u, tc_RY C B T S (tc_f1 kj b (tc_gE C cc v (kj b))) m L u → match u with | (f_caches, f_blocks, f_tokens, f_slots, f_entries, pA, cA, bA, sA, wA, mj, mt, mb, mw, ms, md, qb, qc, qv) => J (nI (e + 1)) f_caches f_blocks f_tokens f_slots f_entries pA cA bA sA wA mj mt mb mw ms md qb qc qv) :
    ∀ f n, n + f = C + 1 → ∀ u, tc_RY C B T S (tc_f1 kj b (tc_gn cc n (kj b))) m L u → match u with | (f_caches, f_blocks, f_tokens, f_slots, f_entries, pA, cA, bA, sA, wA, mj, mt, mb, mw, ms, md, qb, qc, qv) => wY_settle_109 post J x1 (nI e) (nI b) (f + 1) (nI n) f_caches f_blocks f_tokens f_slots f_entries pA cA bA sA wA mj mt mb mw ms md qb qc qv
  | 0, n, hn => by
    obtain ⟨c1, c2, b1, b2, t1, t2, s1, s2⟩ := hc
    have en : n = C + 1 := by omega
    rw [en]
    refine tc_RYi ?_
    intro pA cA bA sA wA mj mt mb mw ms md qb qc qv hN hM hQ
    refine br_t (nI_lt (by omega) (by omega)) ?_
    obtain ⟨q1, q2, q3⟩ : qb e = nI b ∧ qc e = nI cc ∧ qv e = v := hQ e _ hx
    rw [tc_cl (by omega), q2, q3, tc_c4, tc_cl (by omega), tc_cl (by omega)]
    refine ⟨tc_vin (by omega) (by omega), tc_vin (by omega) (by omega), tc_vin (by omega) (by omega), nm_e ⟨tc_vin (by omega) (by omega), tc_vin (by omega) (by omega), nm_e (nm_r (nI_1 e) ?_)⟩⟩
    have hN2 := ty_wrN (n := cc) (w := v) b2 hb hN
    rw [tc_f1s, tc_ff] at hN2
    exact H (nI C, nI B, nI T, nI S, nI L.length, pA, upd cA (cc * 4 + b) v, bA, sA, upd wA b v, mj, mt, mb, mw, ms, md, qb, qc, qv) ⟨rfl, rfl, rfl, rfl, rfl, hN2, hM, hQ⟩
  | f + 1, n, hn => by
    have ih := ty_se109 hc hb hcc he hx hp H f (n + 1) (by omega)
    have hc' := hc
    obtain ⟨c1, c2, b1, b2, t1, t2, s1, s2⟩ := hc
    refine tc_RYi ?_
    intro pA cA bA sA wA mj mt mb mw ms md qb qc qv hN hM hQ
    have R : tc_RY C B T S (tc_f1 kj b (tc_gn cc n (kj b))) m L (nI C, nI B, nI T, nI S, nI L.length, pA, cA, bA, sA, wA, mj, mt, mb, mw, ms, md, qb, qc, qv) := ⟨rfl, rfl, rfl, rfl, rfl, hN, hM, hQ⟩
    refine br_f (nI_nlt (by omega) (by omega)) ⟨tc_vin (by omega) (by omega), ?_⟩
    obtain ⟨q1, q2, q3⟩ : qb e = nI b ∧ qc e = nI cc ∧ qv e = v := hQ e _ hx
    rw [tc_cl (by omega), q2]
    refine ty_move hc' hb (by omega) ?_ R ?_
    · rw [tc_f1s]
      intro i hi
      have := hp i hi
      show (if (kj b).1 i < n then cc else (kj b).1 i) < 100
      split <;> omega
    · clear hN hM hQ R q1 q2 q3
      rw [tc_f1s, tc_ff]
      refine tc_RYi ?_
      intro pA cA bA sA wA mj mt mb mw ms md qb qc qv hN hM hQ
      have g5 := ((hN b hb).2.2 n (by omega)).2.2
      rw [tc_f1s] at g5
      rw [tc_c4]
      refine ⟨tc_vin (by omega) (by omega), nm_e ⟨tc_vin (by omega) (by omega), tc_vin (by omega) (by omega), nm_e (nm_r (nI_1 n) ?_)⟩⟩
      rw [tc_cl (by omega), g5, nI_1]
      refine ih (nI C, nI B, nI T, nI S, nI L.length, pA, upd cA (n * 4 + b) (-2), bA, upd sA (n * 4 + b) (nI ((tc_gn cc n (kj b)).2.2.2.1 n + 1)), wA, mj, mt, mb, mw, ms, md, qb, qc, qv) ⟨rfl, rfl, rfl, rfl, rfl, ?_, hM, hQ⟩
      rw [← tc_gn_s]
      have hN0 := hN
      have hNb := hN b hb
      rw [tc_f1s] at hNb
      intro b' hb'
      by_cases e' : b' = b
      · subst e'
        rw [tc_f1s]
        refine ⟨hNb.1, hNb.2.1, fun n' hn' => ?_⟩
        have g := hNb.2.2 n' hn'
        refine ⟨?_, g.2.1, ?_⟩
        · show _ = tc_f1 (tc_gn cc n (kj b')).2.1 n (-2) n'
          rw [tc_vi]
          by_cases z : n' = n
          · rw [if_pos z, z, tc_f1s]
          · rw [if_neg z, tc_f1n z]; exact g.1
        · show _ = nI (tc_f1 (tc_gn cc n (kj b')).2.2.2.1 n ((tc_gn cc n (kj b')).2.2.2.1 n + 1) n')
          rw [tc_vi]
          by_cases z : n' = n
          · rw [if_pos z, z, tc_f1s]
          · rw [if_neg z, tc_f1n z]; exact g.2.2
      · have g := hN0 b' hb'
        rw [tc_f1n e'] at g ⊢
        refine ⟨g.1, g.2.1, fun n' hn' => ?_⟩
        rw [tc_vx e' (by omega) (by omega), tc_vx e' (by omega) (by omega)]
        exact g.2.2 n' hn'
end
end
section
/-! settle: both sides meet -/
section
variable {C B T S K : Nat} {k k0 : Nat → tc_BS} {m : Nat → tc_MG} {L : tc_QL} {s b n d h y st : Nat} {w : Int32} {post : Int32 → SY → Prop} {x1 : Int32}
theorem ty_se94 (hc : tc_CF C B T S) (hL : tc_LO C B L) (hl : L.length ≤ 16)
    (H : ∀ kf u', (∀ b, b < B → tc_RS C T (tc_qs b L) (k0 b) (kf b) ∧ tc_CM C (kf b)) → tc_RY C B T S kf m [] u' → post (nI L.length) u') :
    ∀ f e (kj : Nat → tc_BS), e + f = L.length → (∀ b, b < B → tc_RS C T (tc_qs b (L.take e)) (k0 b) (kj b) ∧ tc_CM C (kj b) ∧ ∀ i, i < T → (kj b).1 i ≤ C) →
    ∀ u, tc_RY C B T S kj m L u → match u with | (f_caches, f_blocks, f_tokens, f_slots, f_entries, pA, cA, bA, sA, wA, mj, mt, mb, mw, ms, md, qb, qc, qv) => wY_settle_94 post (nI L.length) (f + 1) (nI e) f_caches f_blocks f_tokens f_slots f_entries pA cA bA sA wA mj mt mb mw ms md qb qc qv
  | 0, e, kj, he, hI => by
    have ee : e = L.length := by omega
    rw [ee] at hI ⊢
    rw [List.take_length] at hI
    refine tc_RYi ?_
    intro pA cA bA sA wA mj mt mb mw ms md qb qc qv hN hM hQ
    exact br_t (Int32.le_refl _) (H kj _ (fun b hb => ⟨(hI b hb).1, (hI b hb).2.1⟩) ⟨rfl, rfl, rfl, rfl, rfl, hN, hM, fun i x hx => absurd hx (by simp)⟩)
  | f + 1, e, kj, he, hI => by
    have ihf := ty_se94 hc hL hl H f (e + 1)
    have hc' := hc
    obtain ⟨c1, c2, b1, b2, t1, t2, s1, s2⟩ := hc
    obtain ⟨x, hx⟩ : ∃ x, L[e]? = some x := ⟨_, List.getElem?_eq_getElem (by omega)⟩
    obtain ⟨b, cc, v⟩ := x
    obtain ⟨hb, hcc⟩ := hL.1 _ (List.mem_of_getElem? hx)
    simp only at hb hcc
    have htake : L.take (e + 1) = L.take e ++ [(b, cc, v)] := by
      rw [List.take_add_one, hx]; rfl
    have ih := ihf (tc_f1 kj b (tc_gE C cc v (kj b))) (by omega) (fun b' hb' => by
      have hI' := hI b' hb'
      rw [htake, tc_qs_app]
      by_cases eb : b' = b
      · subst eb
        rw [tc_f1s, if_pos rfl]
        refine ⟨tc_RS_app hcc hI'.1 hI'.2.2, fun n hn => ⟨(hI'.2.1 n hn).1, ?_⟩, fun i hi => ?_⟩
        · show (if n < C + 1 then (kj b').2.2.2.1 n + 1 else (kj b').2.2.2.1 n) = (if C < C + 1 then (kj b').2.2.2.1 C + 1 else (kj b').2.2.2.1 C)
          rw [if_pos (by omega), if_pos (by omega), (hI'.2.1 n hn).2]
        · show (if (kj b').1 i < C + 1 then cc else (kj b').1 i) ≤ C
          have := hI'.2.2 i hi
          split <;> omega
      · rw [tc_f1n eb, if_neg (fun z => eb z.symm), List.append_nil]
        exact hI')
    refine tc_RYi ?_
    intro pA cA bA sA wA mj mt mb mw ms md qb qc qv hN hM hQ
    obtain ⟨q1, q2, q3⟩ : qb e = nI b ∧ qc e = nI cc ∧ qv e = v := hQ e _ hx
    refine br_f (nI_ge (by omega) (by omega)) ⟨tc_vin (by omega) (by omega), nm_r (by rw [tc_cl (by omega), q1]) ⟨C + 1 + 1, ?_⟩⟩
    refine ty_se109 (kj := kj) (m := m) hc' hb hcc (by omega) hx (hI b hb).2.2 ih (C + 1) 0 (by omega) (nI C, nI B, nI T, nI S, nI L.length, pA, cA, bA, sA, wA, mj, mt, mb, mw, ms, md, qb, qc, qv) ?_
    rw [tc_gn_0, tc_f1id]
    exact ⟨rfl, rfl, rfl, rfl, rfl, hN, hM, hQ⟩
theorem ty_settle {u : SY} (hc : tc_CF C B T S) (hW : tc_W0 C B T S K k m) (hL : tc_LO C B L) (hR : tc_RY C B T S k m L u)
    (H : ∀ kf u', (∀ b, b < B → tc_RS C T (tc_qs b L) (tc_ca C ((tc_yl k m S).1 b)) (kf b) ∧ tc_CM C (kf b)) → tc_RY C B T S kf (tc_yl k m S).2 [] u' → post (nI L.length) u') : wpY_settle post u := by
  have hc' := hc
  obtain ⟨c1, c2, b1, b2, t1, t2, s1, s2⟩ := hc
  obtain ⟨a1, a2, a3, a4⟩ := tc_yl_ok c2 hW S (Nat.le_refl S)
  refine tc_RYe (P := fun u => wpY_settle post u) ?_ hR
  intro pA cA bA sA wA mj mt mb mw ms md qb qc qv hN hM hQ
  refine ⟨S + 1, ty_se7 hc' hW ?_ S 0 (by omega) (nI C, nI B, nI T, nI S, nI L.length, pA, cA, bA, sA, wA, mj, mt, mb, mw, ms, md, qb, qc, qv) ⟨rfl, rfl, rfl, rfl, rfl, hN, hM, hQ⟩⟩
  clear hN hM hQ
  refine tc_RYi ?_
  intro pA cA bA sA wA mj mt mb mw ms md qb qc qv hN hM hQ
  refine ⟨C * 4 + 4 + 1, ty_se45 hc' (fun bA' sA' g => ?_) (C * 4 + 4) 0 bA sA (by omega) (fun j hj => by omega) (fun j _ => rfl)⟩
  refine ⟨L.length + 1, ty_se94 (k0 := fun b => tc_ca C ((tc_yl k m S).1 b)) (m := (tc_yl k m S).2) hc' hL (tc_LO_len c2 b2 hL) H L.length 0 (fun b => tc_ca C ((tc_yl k m S).1 b)) (by omega) (fun b hb => ⟨tc_RS_nil rfl, fun n hn => ⟨rfl, rfl⟩, fun i hi => ?_⟩)
    (nI C, nI B, nI T, nI S, nI L.length, pA, cA, bA', sA', wA, mj, mt, mb, mw, ms, md, qb, qc, qv) ⟨rfl, rfl, rfl, rfl, rfl, fun b hb => ⟨(hN b hb).1, (hN b hb).2.1, fun n hn => ?_⟩, hM, hQ⟩⟩
  · have hw := a1.1 b hb
    show ((tc_yl k m S).1 b).1 i ≤ C
    revert hw
    rcases (tc_yl k m S).1 b with ⟨p, c, e, t, w⟩
    intro hw
    rcases hw.1 i hi with z | ⟨s', z1, z2, z3, z4⟩
    · exact z
    · rw [a2 s' z1] at z3; exact absurd z3 (by decide)
  · have g1 := (hN b hb).2.2 n hn
    have g2 := g (n * 4 + b) (by omega)
    have em : (n * 4 + b) % 4 = b := by omega
    rw [em] at g2
    refine ⟨g1.1, ?_, ?_⟩
    · rw [g2.1]; exact tc_nzN.symm
    · rw [g2.2]; exact ((hN b hb).2.2 C (Nat.le_refl C)).2.2
end
theorem tc_meet {C T : Nat} {Q : tc_QL} {q1 q2 f g : tc_BS} (h1 : tc_RS C T Q q1 f) (h2 : tc_RS C T Q q2 g) (ht : q1.2.2.2.1 C = q2.2.2.2.1 C) (he : Q = [] → q1.1 = q2.1 ∧ q1.2.1 = q2.2.1 ∧ q1.2.2.2.2 = q2.2.2.2.2)
    (c1 : tc_CM C f) (c2 : tc_CM C g) : (∀ i, i < T → f.1 i = g.1 i) ∧ (∀ n, n ≤ C → f.2.1 n = g.2.1 n ∧ f.2.2.1 n = g.2.2.1 n ∧ f.2.2.2.1 n = g.2.2.2.1 n) ∧ f.2.2.2.2 = g.2.2.2.2 := by
  obtain ⟨a1, a2, a3⟩ := h1
  obtain ⟨d1, d2, d3⟩ := h2
  have tt : f.2.2.2.1 C = g.2.2.2.1 C := by rw [a1, d1, ht]
  have et : ∀ n, n ≤ C → f.2.2.1 n = g.2.2.1 n ∧ f.2.2.2.1 n = g.2.2.2.1 n := fun n hn => ⟨by rw [(c1 n hn).1, (c2 n hn).1], by rw [(c1 n hn).2, (c2 n hn).2, tt]⟩
  by_cases e : Q = []
  · obtain ⟨x1, x2, x3⟩ := a2 e
    obtain ⟨y1, y2, y3⟩ := d2 e
    obtain ⟨z1, z2, z3⟩ := he e
    exact ⟨fun i hi => by rw [x1 i hi, y1 i hi, z1], fun n hn => ⟨by rw [x2 n hn, y2 n hn, z2], et n hn⟩, by rw [x3, y3, z3]⟩
  · obtain ⟨x, hx⟩ : ∃ x, Q.getLast? = some x := ⟨_, List.getLast?_eq_some_getLast e⟩
    obtain ⟨x1, x2, x3⟩ := a3 x hx
    obtain ⟨y1, y2, y3⟩ := d3 x hx
    exact ⟨fun i hi => by rw [x1 i hi, y1 i hi], fun n hn => ⟨by rw [x2 n hn, y2 n hn], et n hn⟩, by rw [x3, y3]⟩
theorem i_vc_settle {k : Nat} {u : SX} {v : SY} (I : i_Rel k u v) (hk : k + 4 ≤ 2052) : wpX_settle (fun r u' => wpY_settle (fun r' v' => r' = r ∧ i_Rel (k + 4) u' v') v) u := by
  obtain ⟨C, B, T, S, q, m, L, ⟨h1, h2, h3, h4⟩, hX, hY⟩ := I
  have h1' := h1
  obtain ⟨c1, c2, b1, b2, t1, t2, s1, s2⟩ := h1'
  have hPP : tc_PP C B T S q m L := fun b hb _ => h4 b hb
  refine tx_settle (K := k + 4) h1 (by omega) (tc_W0_K (by omega) h2) hPP h3 (fun b hb => ?_) hX (fun kf mf u' g1 g2 g3 g4 => ?_)
  · have := (tc_W_t h2 hb (Nat.le_refl C)).2
    have := tc_qs_len c2 h3 b
    omega
  refine ty_settle (K := k) h1 h2 h3 hY (fun kg v' r1 r2 => ?_)
  obtain ⟨a1, a2, a3, a4⟩ := tc_yl_ok c2 h2 S (Nat.le_refl S)
  have E : ∀ b, b < B → (∀ i, i < T → (kf b).1 i = (kg b).1 i) ∧ (∀ n, n ≤ C → (kf b).2.1 n = (kg b).2.1 n ∧ (kf b).2.2.1 n = (kg b).2.2.1 n ∧ (kf b).2.2.2.1 n = (kg b).2.2.2.1 n) ∧ (kf b).2.2.2.2 = (kg b).2.2.2.2 := by
    intro b hb
    obtain ⟨p, p1, p2, p3, p4, p5⟩ := g3 b hb
    obtain ⟨r3, r4⟩ := r1 b hb
    refine tc_meet p4 r3 ?_ (fun z => ?_) p5 r4
    · show p.2.2.2.1 C = ((tc_yl q m S).1 b).2.2.2.1 C
      rw [p1, a4 b]
    · have h9 : tc_hd b L = 9999 := (tc_hd_9 c2 h3).mpr z
      obtain ⟨e1, e2⟩ := p3 h9
      obtain ⟨e3, e4⟩ := tc_ay S (Nat.le_refl S) c2 h2 hPP b h9
      refine ⟨e1.trans e3, e2.trans e4, ?_⟩
      show p.2.2.2.2 = ((tc_yl q m S).1 b).2.2.2.2
      rw [p2, a4 b]
  refine ⟨rfl, C, B, T, S, kf, mf, [], ⟨h1, g1, ⟨fun x hx => by simp at hx, List.nodup_nil⟩, fun b hb => ?_⟩, g4, ?_⟩
  · obtain ⟨p, p1, p2, p3, p4, p5⟩ := g3 b hb
    revert p5
    rcases kf b with ⟨pp, cc, ee, tt, ww⟩
    intro p5
    exact ⟨fun s hs ha => by rw [g2 s hs] at ha; exact absurd ha (by decide), fun n hn _ => ⟨(p5 n hn).1, fun z => absurd rfl z⟩, fun n hn => Or.inl (p5 n (by omega)).2⟩
  · revert r2
    revert v'
    refine tc_RYi ?_
    intro pA cA bA sA wA mj mt mb mw ms md qb qc qv hN hM hQ
    refine ⟨rfl, rfl, rfl, rfl, rfl, fun b hb => ?_, fun s hs => ?_, hQ⟩
    · obtain ⟨x1, x2, x3⟩ := hN b hb
      obtain ⟨e1, e2, e3⟩ := E b hb
      refine ⟨x1.trans e3.symm, fun i hi => by rw [e1 i hi]; exact x2 i hi, fun n hn => ?_⟩
      obtain ⟨y1, y2, y3⟩ := x3 n hn
      obtain ⟨z1, z2, z3⟩ := e2 n hn
      exact ⟨by rw [z1]; exact y1, by rw [z2]; exact y2, by rw [z3]; exact y3⟩
    · have := hM s hs
      rw [a2 s hs] at this
      rw [g2 s hs]
      exact this
end
