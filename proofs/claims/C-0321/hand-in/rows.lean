section
/-! rows of the kit's PURE-ROWS (starting text) -/
theorem pk_us {f : Nat → Int32} {k : Nat} {x : Int32} : upd f k x k = x := if_pos rfl
theorem pk_un {f : Nat → Int32} {k j : Nat} {x : Int32} (h : j ≠ k) : upd f k x j = f j := if_neg h
theorem pk_sub {a b : Nat} (h : b ≤ a) : nI a - nI b = nI (a - b) := by
  obtain ⟨c, rfl⟩ : ∃ c, a = c + b := ⟨a - b, by omega⟩
  rw [← nI_add, Int32.add_sub_cancel, Nat.add_sub_cancel]
theorem pk_m1 (n : Nat) : nI (n + 1) + (-1) = nI n := by
  rw [← nI_1, Int32.add_assoc, show (1 : Int32) + (-1) = 0 from rfl, Int32.add_zero]
theorem pk_mul (a b : Nat) : nI a * nI b = nI (a * b) := (Int32.ofNat_mul a b).symm
theorem pk_div {a d : Nat} (ha : a < 2 ^ 31) (h0 : 0 < d) (hd : d < 2 ^ 31) : nI a / nI d = nI (a / d) := by
  apply Int32.toInt_inj.mp
  rw [lg_idiv_nonneg (by rw [nI_toInt ha]; omega) (by rw [nI_toInt hd]; omega), nI_toInt ha, nI_toInt hd, nI_toInt (Nat.lt_of_le_of_lt (Nat.div_le_self a d) ha)]
  first | rfl | exact (Int.natCast_ediv _ _).symm
theorem pk_rem {a d : Nat} (ha : a < 2 ^ 31) (h0 : 0 < d) (hd : d < 2 ^ 31) : nI a - nI a / nI d * nI d = nI (a % d) := by
  rw [pk_div ha h0 hd, pk_mul, pk_sub (Nat.div_mul_le_self a d)]
  exact congrArg nI (by have := Nat.div_add_mod' a d; omega)
theorem pk_ix (x : Int32) {n : Nat} (hn : n < 2 ^ 31) : x < 0 ∨ nI n ≤ x ∨ ∃ j : Nat, j < n ∧ x = nI j := by
  by_cases h : x < 0
  · exact Or.inl h
  · obtain ⟨j, hj, rfl⟩ := nI_of h
    by_cases h2 : j < n
    · exact Or.inr (Or.inr ⟨j, h2, rfl⟩)
    · exact Or.inr (Or.inl (nI_le (by omega) hj))
theorem pk_le {x y : Int32} {A B : Prop} (a b : Nat) (f : a ≤ b → A) (g : b < a → B) (hx : x = nI a := by rfl) (hy : y = nI b := by rfl) (ha : a < 2 ^ 31 := by omega) (hb : b < 2 ^ 31 := by omega) : (x ≤ y → A) ∧ (¬ x ≤ y → B) := by
  subst hx hy
  rw [nI_leI ha hb]
  exact ⟨f, fun z => g (by omega)⟩
theorem pk_lt {x y : Int32} {A B : Prop} (a b : Nat) (f : a < b → A) (g : b ≤ a → B) (hx : x = nI a := by rfl) (hy : y = nI b := by rfl) (ha : a < 2 ^ 31 := by omega) (hb : b < 2 ^ 31 := by omega) : (x < y → A) ∧ (¬ x < y → B) := by
  subst hx hy
  rw [nI_ltI ha hb]
  exact ⟨f, fun z => g (by omega)⟩
theorem pk_eq {x y : Int32} {A B : Prop} (a b : Nat) (f : a = b → A) (g : a ≠ b → B) (hx : x = nI a := by rfl) (hy : y = nI b := by rfl) (ha : a < 2 ^ 31 := by omega) (hb : b < 2 ^ 31 := by omega) : (x = y → A) ∧ (¬ x = y → B) := by
  subst hx hy
  rw [nI_eq ha hb]
  exact ⟨f, g⟩
theorem pk_in {x : Int32} (n N : Nat) (h : n < N) (hx : x = nI n := by rfl) (hN : N < 2 ^ 31 := by omega) : vp_in x N := by
  subst hx
  exact vp_in_nI h hN
theorem pk_cl {x : Int32} (n : Nat) (hx : x = nI n := by rfl) (h : n < 2 ^ 31 := by omega) : x.toNatClampNeg = n := by
  subst hx
  exact nI_clamp h
theorem pk_tn {n : Nat} (h : n < 2 ^ 32) : (nI n).toBitVec.toNat = n := Nat.mod_eq_of_lt h
theorem pk_and (x : Int32) {m : Int32} (k : Nat) (hm : m.toBitVec.toNat = 2 ^ k - 1) : x &&& m = nI (x.toBitVec.toNat % 2 ^ k) := by
  apply Int32.toBitVec_inj.mp
  apply BitVec.eq_of_toNat_eq
  rw [Int32.toBitVec_and, BitVec.toNat_and, hm, Nat.and_two_pow_sub_one_eq_mod]
  show _ = (BitVec.ofNat 32 _).toNat
  rw [BitVec.toNat_ofNat]
  exact (Nat.mod_eq_of_lt (Nat.lt_of_le_of_lt (Nat.mod_le _ _) x.toBitVec.isLt)).symm
theorem pk_andN {n : Nat} (h : n < 2 ^ 32) {m : Int32} (k : Nat) (hm : m.toBitVec.toNat = 2 ^ k - 1) : nI n &&& m = nI (n % 2 ^ k) := by
  rw [pk_and _ k hm, pk_tn h]
theorem pk_shr (a s : Int32) (k : Nat) (hs : (s.toBitVec.smod 32).toNat = k) : (a >>> s).toInt = a.toInt >>> k := by
  show (a.toBitVec.sshiftRight (s.toBitVec.smod 32).toNat).toInt = _
  rw [hs, BitVec.toInt_sshiftRight]
  rfl
theorem pk_shrN {n : Nat} (h : n < 2 ^ 31) (s : Int32) (k : Nat) (hs : (s.toBitVec.smod 32).toNat = k) : nI n >>> s = nI (n / 2 ^ k) := by
  apply Int32.toInt_inj.mp
  have h2 : n / 2 ^ k ≤ n := Nat.div_le_self _ _
  rw [pk_shr _ _ k hs, nI_toInt h, nI_toInt (by omega), Int.shiftRight_eq_div_pow]
  rfl
theorem pk_vb (z : Int32) : vp_nar .byte z.toInt8.toInt32 = z.toInt8.toInt32 := by rw [vp_nar_byte]; simp
end
section
/-! the reducers as folds; lists of a key's values; all in plain Lean -/
theorem mr_i8 {q : Nat} (h : q < 128) : (nI q).toInt8.toInt32 = nI q :=
  lg_i2b_small (by rw [nI_toInt (by omega)]; omega) (by rw [nI_toInt (by omega)]; omega)
theorem mr_nb {q : Nat} (h : q < 128) : vp_nar .byte (nI q) = nI q := by rw [vp_nar_byte, mr_i8 h]
theorem mr_nb8 {q : Nat} (h : q < 128) : vp_nar .byte (nI q).toInt8.toInt32 = nI q := by rw [mr_i8 h, mr_nb h]
def mr_cb (r : Nat) (a b : Int32) : Int32 := if r = 1 then (if a ≤ b then b else a) else if r = 2 then (if b ≤ a then b else a) else a + b
theorem mr_mx_as (a b c : Int32) : (if (if a ≤ b then b else a) ≤ c then c else (if a ≤ b then b else a)) = (if a ≤ (if b ≤ c then c else b) then (if b ≤ c then c else b) else a) := by
  by_cases x : a ≤ b
  · by_cases y : b ≤ c
    · rw [if_pos x, if_pos y, if_pos (Int32.le_trans x y)]
    · rw [if_pos x, if_neg y, if_pos x]
  · by_cases y : b ≤ c
    · rw [if_neg x, if_pos y]
    · have z : ¬ a ≤ c := by
        simp only [Int32.le_iff_toInt_le] at x y ⊢
        omega
      rw [if_neg x, if_neg y, if_neg z, if_neg x]
theorem mr_mn_as (a b c : Int32) : (if c ≤ (if b ≤ a then b else a) then c else (if b ≤ a then b else a)) = (if (if c ≤ b then c else b) ≤ a then (if c ≤ b then c else b) else a) := by
  by_cases x : b ≤ a
  · by_cases y : c ≤ b
    · rw [if_pos x, if_pos y, if_pos (Int32.le_trans y x)]
    · rw [if_pos x, if_neg y, if_pos x]
  · by_cases y : c ≤ b
    · rw [if_neg x, if_pos y]
    · have z : ¬ c ≤ a := by
        simp only [Int32.le_iff_toInt_le] at x y ⊢
        omega
      rw [if_neg x, if_neg y, if_neg z, if_neg x]
theorem mr_cb_as (r : Nat) (a b c : Int32) : mr_cb r (mr_cb r a b) c = mr_cb r a (mr_cb r b c) := by
  unfold mr_cb
  by_cases h1 : r = 1
  · simp only [if_pos h1]
    exact mr_mx_as a b c
  · by_cases h2 : r = 2
    · simp only [if_neg h1, if_pos h2]
      exact mr_mn_as a b c
    · simp only [if_neg h1, if_neg h2]
      exact Int32.add_assoc a b c
def mr_st (r : Nat) (s : Int32 × Bool) (w : Int32) : Int32 × Bool := (if r = 4 then 31 * s.1 + w else if s.2 = true then mr_cb r s.1 w else w, true)
def mr_fo (r : Nat) (s : Int32 × Bool) (l : List Int32) : Int32 × Bool := l.foldl (mr_st r) s
def mr_in (r : Nat) : Int32 × Bool := (if r = 4 then 7 else 0, false)
theorem mr_fo_app (r : Nat) (s : Int32 × Bool) (a b : List Int32) : mr_fo r s (a ++ b) = mr_fo r (mr_fo r s a) b := List.foldl_append
theorem mr_fo_sn (r : Nat) (s : Int32 × Bool) (a : List Int32) (w : Int32) : mr_fo r s (a ++ [w]) = mr_st r (mr_fo r s a) w := mr_fo_app r s a [w]
def mr_EQ (r : Nat) (a b : List Int32) : Prop := ∀ s, mr_fo r s a = mr_fo r s b
theorem mr_EQ_rf (r : Nat) (a : List Int32) : mr_EQ r a a := fun _ => rfl
theorem mr_EQ_of {r : Nat} {a b : List Int32} (h : a = b) : mr_EQ r a b := fun _ => by rw [h]
theorem mr_EQ_tr {r : Nat} {a b c : List Int32} (h : mr_EQ r a b) (g : mr_EQ r b c) : mr_EQ r a c := fun s => (h s).trans (g s)
theorem mr_EQ_sy {r : Nat} {a b : List Int32} (h : mr_EQ r a b) : mr_EQ r b a := fun s => (h s).symm
theorem mr_EQ_ap {r : Nat} {a b c d : List Int32} (h : mr_EQ r a b) (g : mr_EQ r c d) : mr_EQ r (a ++ c) (b ++ d) := fun s => by rw [mr_fo_app, mr_fo_app, h s, g _]
theorem mr_EQ_cb {r : Nat} (h : r ≠ 4) (x y : Int32) : mr_EQ r [x, y] [mr_cb r x y] := by
  intro s
  show mr_st r (mr_st r s x) y = mr_st r s (mr_cb r x y)
  unfold mr_st
  simp only [if_neg h, if_true]
  cases s.2 with
  | false => rfl
  | true => simp only [if_true]; rw [mr_cb_as]
theorem mr_fo_2 (r : Nat) : ∀ (l : List Int32) (s : Int32 × Bool), l ≠ [] → (mr_fo r s l).2 = true := by
  intro l
  induction l with
  | nil => intro s h; exact absurd rfl h
  | cons w l ih =>
    intro s _
    show (mr_fo r (mr_st r s w) l).2 = true
    cases l with
    | nil => rfl
    | cons x l => exact ih _ (by simp)
theorem mr_EQ_nil {r : Nat} {a b : List Int32} (h : mr_EQ r a b) : a = [] → b = [] := by
  intro e
  by_cases z : b = []
  · exact z
  · have h1 := mr_fo_2 r b (0, false) z
    rw [← h, e] at h1
    exact absurd (show false = true from h1) (by decide)
def mr_vl (a v : Nat → Int32) (k : Int32) : Nat → List Int32
  | 0 => []
  | n + 1 => mr_vl a v k n ++ (if a n = k then [v n] else [])
theorem mr_vl_t {a v : Nat → Int32} {k : Int32} {n : Nat} (h : a n = k) : mr_vl a v k (n + 1) = mr_vl a v k n ++ [v n] := by
  show mr_vl a v k n ++ (if a n = k then [v n] else []) = _
  rw [if_pos h]
theorem mr_vl_f {a v : Nat → Int32} {k : Int32} {n : Nat} (h : a n ≠ k) : mr_vl a v k (n + 1) = mr_vl a v k n := by
  show mr_vl a v k n ++ (if a n = k then [v n] else []) = _
  rw [if_neg h, List.append_nil]
theorem mr_vl_c {a v b w : Nat → Int32} {k : Int32} : ∀ {n : Nat}, (∀ j, j < n → a j = b j ∧ v j = w j) → mr_vl a v k n = mr_vl b w k n := by
  intro n
  induction n with
  | zero => intro _; rfl
  | succ n ih =>
    intro h
    show mr_vl a v k n ++ (if a n = k then [v n] else []) = mr_vl b w k n ++ (if b n = k then [w n] else [])
    rw [ih (fun j hj => h j (by omega)), (h n (by omega)).1, (h n (by omega)).2]
theorem mr_vl_g {a v : Nat → Int32} {k : Int32} {m : Nat} : ∀ {n : Nat}, m ≤ n → (∀ j, m ≤ j → j < n → a j ≠ k) → mr_vl a v k n = mr_vl a v k m := by
  intro n
  induction n with
  | zero => intro h _; rw [show m = 0 by omega]
  | succ n ih =>
    intro h g
    by_cases e : m = n + 1
    · rw [e]
    · rw [mr_vl_f (g n (by omega) (by omega)), ih (by omega) (fun j h1 h2 => g j h1 (by omega))]
theorem mr_vl_nil {a v : Nat → Int32} {k : Int32} {n : Nat} (h : ∀ j, j < n → a j ≠ k) : mr_vl a v k n = [] := mr_vl_g (m := 0) (by omega) (fun j _ hj => h j hj)
theorem mr_vl_ne {a v : Nat → Int32} {k : Int32} : ∀ {n : Nat}, mr_vl a v k n ≠ [] → ∃ j, j < n ∧ a j = k := by
  intro n
  induction n with
  | zero => intro h; exact absurd rfl h
  | succ n ih =>
    intro h
    by_cases e : a n = k
    · exact ⟨n, by omega, e⟩
    · rw [mr_vl_f e] at h
      obtain ⟨j, hj, ej⟩ := ih h
      exact ⟨j, by omega, ej⟩
theorem mr_vl_mem {a v : Nat → Int32} {k : Int32} : ∀ {n j : Nat}, j < n → a j = k → mr_vl a v k n ≠ [] := by
  intro n
  induction n with
  | zero => intro j h; omega
  | succ n ih =>
    intro j h e
    by_cases c : a n = k
    · rw [mr_vl_t c]; simp
    · rw [mr_vl_f c]
      have : j ≠ n := fun z => c (z ▸ e)
      exact ih (by omega) e
theorem mr_vl_app {a v b w c x : Nat → Int32} {k : Int32} {e : Nat} (h1 : ∀ j, j < e → c j = a j ∧ x j = v j) : ∀ {m : Nat}, (∀ j, j < m → c (e + j) = b j ∧ x (e + j) = w j) → mr_vl c x k (e + m) = mr_vl a v k e ++ mr_vl b w k m := by
  intro m
  induction m with
  | zero =>
    intro _
    show mr_vl c x k e = mr_vl a v k e ++ []
    rw [List.append_nil, mr_vl_c h1]
  | succ m ih =>
    intro h2
    show mr_vl c x k (e + m) ++ (if c (e + m) = k then [x (e + m)] else []) = mr_vl a v k e ++ (mr_vl b w k m ++ (if b m = k then [w m] else []))
    rw [ih (fun j hj => h2 j (by omega)), (h2 m (by omega)).1, (h2 m (by omega)).2, List.append_assoc]
theorem mr_vl_sw {a v b w : Nat → Int32} {k : Int32} {m : Nat} (h1 : b m = a (m + 1) ∧ w m = v (m + 1)) (h2 : b (m + 1) = a m ∧ w (m + 1) = v m) (ho : ∀ j, j ≠ m → j ≠ m + 1 → b j = a j ∧ w j = v j) (hn : a m ≠ a (m + 1)) : ∀ {n : Nat}, m + 2 ≤ n → mr_vl b w k n = mr_vl a v k n := by
  intro n
  induction n with
  | zero => intro h; omega
  | succ n ih =>
    intro h
    by_cases e : n = m + 1
    · subst e
      show (mr_vl b w k m ++ (if b m = k then [w m] else [])) ++ (if b (m + 1) = k then [w (m + 1)] else []) = (mr_vl a v k m ++ (if a m = k then [v m] else [])) ++ (if a (m + 1) = k then [v (m + 1)] else [])
      rw [mr_vl_c (b := a) (w := v) (fun j hj => ho j (by omega) (by omega)), h1.1, h1.2, h2.1, h2.2]
      by_cases c : a m = k
      · have d : a (m + 1) ≠ k := fun z => hn (c.trans z.symm)
        rw [if_pos c, if_neg d, List.append_nil, List.append_nil]
      · rw [if_neg c, List.append_nil, List.append_nil]
    · show mr_vl b w k n ++ (if b n = k then [w n] else []) = mr_vl a v k n ++ (if a n = k then [v n] else [])
      rw [ih (by omega), (ho n (by omega) (by omega)).1, (ho n (by omega) (by omega)).2]
def mr_K (a : Nat → Int32) (j : Nat) : Nat := (a j).toNatClampNeg
def mr_R (a : Nat → Int32) (n : Nat) : Prop := ∀ j, j < n → mr_K a j < 16 ∧ a j = nI (mr_K a j)
theorem mr_K_of {a : Nat → Int32} {j q : Nat} (h : a j = nI q) (hq : q < 2 ^ 31) : mr_K a j = q := by
  unfold mr_K
  rw [h, nI_clamp hq]
theorem mr_K_c {a b : Nat → Int32} {i j : Nat} (h : a i = b j) : mr_K a i = mr_K b j := by
  unfold mr_K
  rw [h]
theorem mr_K_inj {a b : Nat → Int32} {i j n m : Nat} (ha : mr_R a n) (hb : mr_R b m) (hi : i < n) (hj : j < m) (h : mr_K a i = mr_K b j) : a i = b j := by
  rw [(ha i hi).2, (hb j hj).2, h]
theorem mr_R_c {a b : Nat → Int32} {n : Nat} (h : mr_R a n) (e : ∀ j, j < n → b j = a j) : mr_R b n := fun j hj => by
  rw [mr_K_c (e j hj), e j hj]
  exact h j hj
theorem mr_R_w {a : Nat → Int32} {n m : Nat} (h : mr_R a n) (e : m ≤ n) : mr_R a m := fun j hj => h j (by omega)
theorem mr_R_u {a : Nat → Int32} {n m q : Nat} (h : mr_R a n) (hq : q < 16) : mr_R (upd a m (nI q)) n := fun j hj => by
  by_cases e : j = m
  · subst e
    have z : upd a j (nI q) j = nI q := pk_us
    rw [mr_K_of z (by omega)]
    exact ⟨hq, z⟩
  · have z : upd a m (nI q) j = a j := pk_un e
    rw [mr_K_c z, z]
    exact h j hj
def mr_rk (p q : Nat) : Nat := q % p * 16 + q
end
section
/-! the insertion sort by part and key: pure steps, then the walk -/
def mr_SI (p b i m kq : Nat) (bk0 bv0 B V : Nat → Int32) : Prop :=
  mr_R B b ∧ (∀ k, mr_vl B V k b = mr_vl bk0 bv0 k b) ∧ (∀ x y, x < y → y ≤ i → x ≠ m → y ≠ m → mr_rk p (mr_K B x) ≤ mr_rk p (mr_K B y)) ∧ (∀ y, m < y → y ≤ i → mr_rk p kq < mr_rk p (mr_K B y)) ∧ B m = nI kq
def mr_SO (p b i : Nat) (bk0 bv0 B V : Nat → Int32) : Prop :=
  mr_R B b ∧ (∀ k, mr_vl B V k b = mr_vl bk0 bv0 k b) ∧ ∀ x y, x ≤ y → y < i → mr_rk p (mr_K B x) ≤ mr_rk p (mr_K B y)
theorem mr_SI_s {p b i m kq : Nat} {bk0 bv0 bk bv : Nat → Int32} {v : Int32} (hi : i < b) (hm : m + 1 ≤ i) (hkq : kq < 16) (h : mr_SI p b i (m + 1) kq bk0 bv0 (upd bk (m + 1) (nI kq)) (upd bv (m + 1) v)) (hl : mr_rk p kq < mr_rk p (mr_K bk m)) :
    mr_SI p b i m kq bk0 bv0 (upd (upd bk (m + 1) (bk m)) m (nI kq)) (upd (upd bv (m + 1) (bv m)) m v) := by
  obtain ⟨hR, hv, hs, hg, hB⟩ := h
  have e0 : upd bk (m + 1) (nI kq) m = bk m := pk_un (by omega)
  have f0 : upd bv (m + 1) v m = bv m := pk_un (by omega)
  have e1 : upd bk (m + 1) (nI kq) (m + 1) = nI kq := pk_us
  have f1 : upd bv (m + 1) v (m + 1) = v := pk_us
  have g0 : upd (upd bk (m + 1) (bk m)) m (nI kq) m = nI kq := pk_us
  have k0 : upd (upd bv (m + 1) (bv m)) m v m = v := pk_us
  have g1 : upd (upd bk (m + 1) (bk m)) m (nI kq) (m + 1) = bk m := (pk_un (by omega)).trans pk_us
  have k1 : upd (upd bv (m + 1) (bv m)) m v (m + 1) = bv m := (pk_un (by omega)).trans pk_us
  have go : ∀ j, j ≠ m → j ≠ m + 1 → upd (upd bk (m + 1) (bk m)) m (nI kq) j = upd bk (m + 1) (nI kq) j := fun j h1 h2 => by
    rw [pk_un h1, pk_un h2, pk_un h2]
  have ko : ∀ j, j ≠ m → j ≠ m + 1 → upd (upd bv (m + 1) (bv m)) m v j = upd bv (m + 1) v j := fun j h1 h2 => by
    rw [pk_un h1, pk_un h2, pk_un h2]
  generalize upd (upd bk (m + 1) (bk m)) m (nI kq) = B' at *
  generalize upd (upd bv (m + 1) (bv m)) m v = V' at *
  generalize upd bk (m + 1) (nI kq) = B at *
  generalize upd bv (m + 1) v = V at *
  have hl' : mr_rk p kq < mr_rk p (mr_K B m) := by rw [mr_K_c e0]; exact hl
  refine ⟨?_, ?_, ?_, ?_, g0⟩
  · intro j hj
    by_cases c : j = m
    · subst c
      rw [mr_K_c (b := B) (j := j + 1) (g0.trans e1.symm), g0.trans e1.symm]
      exact hR _ (by omega)
    · by_cases d : j = m + 1
      · subst d
        rw [mr_K_c (b := B) (j := m) (g1.trans e0.symm), g1.trans e0.symm]
        exact hR _ (by omega)
      · rw [mr_K_c (go j c d), go j c d]
        exact hR j hj
  · intro k
    rw [← hv k]
    refine mr_vl_sw (m := m) ⟨g0.trans e1.symm, k0.trans f1.symm⟩ ⟨g1.trans e0.symm, k1.trans f0.symm⟩ (fun j c d => ⟨go j c d, ko j c d⟩) ?_ (by omega)
    intro z
    rw [mr_K_of (z.trans e1) (by omega)] at hl'
    exact Nat.lt_irrefl _ hl'
  · intro x y hxy hy hx1 hy1
    by_cases c : x = m + 1
    · subst c
      rw [mr_K_c (b := B) (j := m) (g1.trans e0.symm), mr_K_c (go y (by omega) (by omega))]
      exact hs m y (by omega) hy (by omega) (by omega)
    · by_cases d : y = m + 1
      · subst d
        rw [mr_K_c (b := B) (j := m) (g1.trans e0.symm), mr_K_c (go x (by omega) (by omega))]
        exact hs x m (by omega) (by omega) (by omega) (by omega)
      · rw [mr_K_c (go x (by omega) (by omega)), mr_K_c (go y (by omega) (by omega))]
        exact hs x y hxy hy (by omega) (by omega)
  · intro y h1 h2
    by_cases d : y = m + 1
    · subst d
      rw [mr_K_c (b := B) (j := m) (g1.trans e0.symm)]
      exact hl'
    · rw [mr_K_c (go y (by omega) (by omega))]
      exact hg y (by omega) h2
theorem mr_SI_x {p b i m kq : Nat} {bk0 bv0 B V : Nat → Int32} (hkq : kq < 16) (hm : m ≤ i) (h : mr_SI p b i m kq bk0 bv0 B V) (hl : ∀ m', m = m' + 1 → mr_rk p (mr_K B m') ≤ mr_rk p kq) : mr_SO p b (i + 1) bk0 bv0 B V := by
  obtain ⟨hR, hv, hs, hg, hB⟩ := h
  refine ⟨hR, hv, ?_⟩
  have hk : mr_K B m = kq := mr_K_of hB (by omega)
  intro x y hxy hy
  by_cases e : x = y
  · rw [e]; exact Nat.le_refl _
  · by_cases c : x = m
    · subst c
      rw [hk]
      exact Nat.le_of_lt (hg y (by omega) (by omega))
    · by_cases d : y = m
      · subst d
        rw [hk]
        have h1 := hl (y - 1) (by omega)
        by_cases f : x = y - 1
        · rw [f]; exact h1
        · exact Nat.le_trans (hs x (y - 1) (by omega) (by omega) (by omega) (by omega)) h1
      · exact hs x y (by omega) (by omega) c d
theorem mr_upd_self (f : Nat → Int32) (i : Nat) : upd f i (f i) = f := by
  funext j
  by_cases e : j = i
  · rw [e]; exact pk_us
  · exact pk_un e
theorem mr_SO_1 {p b : Nat} {bk bv : Nat → Int32} (h : mr_R bk b) : mr_SO p b 1 bk bv bk bv := by
  refine ⟨h, fun _ => rfl, ?_⟩
  intro x y hx hy
  rw [show x = 0 by omega, show y = 0 by omega]
  exact Nat.le_refl _
theorem mr_SI_0 {p b i : Nat} {bk0 bv0 bk bv : Nat → Int32} (hi : i < b) (h : mr_SO p b i bk0 bv0 bk bv) : mr_SI p b i i (mr_K bk i) bk0 bv0 (upd bk i (nI (mr_K bk i))) (upd bv i (bv i)) := by
  rw [← (h.1 i hi).2, mr_upd_self, mr_upd_self]
  refine ⟨h.1, h.2.1, ?_, ?_, (h.1 i hi).2⟩
  · intro x y h1 h2 h3 h4
    exact h.2.2 x y (by omega) (by omega)
  · intro y h1 h2
    omega
theorem mr_rk_gt {p a b : Nat} (ha : a < 16) (hb : b < 16) : mr_rk p b < mr_rk p a ↔ (b % p < a % p ∨ (a % p = b % p ∧ b < a)) := by
  unfold mr_rk
  omega
section
variable {pc bz md fa fo lw hg rd bu mp sc se oe : Int32} {rc rk rv mf rf bk bv sk sv ps hd lm os ok ov : Nat → Int32}
theorem mr_comes {post : Int32 → Prop} {p a b : Nat} (hp : 1 ≤ p) (hp4 : p ≤ 4) (ha : a < 16) (hb : b < 16) (h1 : mr_rk p b < mr_rk p a → post 1) (h0 : mr_rk p a ≤ mr_rk p b → post 0) :
    wpX_comesAfter post (nI p, bz, md, fa, fo, lw, hg, rd, bu, mp, sc, se, oe, rc, rk, rv, mf, rf, bk, bv, sk, sv, ps, hd, lm, os, ok, ov) (nI a) (nI b) := by
  have hx : nI a - nI a / nI p * nI p = nI (a % p) := pk_rem (by omega) (by omega) (by omega)
  have hy : nI b - nI b / nI p * nI p = nI (b % p) := pk_rem (by omega) (by omega) (by omega)
  have ma : a % p < 16 := Nat.lt_of_le_of_lt (Nat.mod_le a p) ha
  have mb : b % p < 16 := Nat.lt_of_le_of_lt (Nat.mod_le b p) hb
  have g := mr_rk_gt (p := p) ha hb
  have hne : ¬ nI p = 0 := nI_ne0 (by omega) (by omega)
  refine And.intro hne (nm_r hx (And.intro hne (nm_r hy ?_)))
  refine pk_lt (b % p) (a % p) (fun z => h1 (g.mpr (Or.inl z))) (fun z => ?_)
  refine pk_eq (a % p) (b % p) (fun e => ?_) (fun e => h0 (by omega))
  exact pk_le a b (fun c => h0 (by omega)) (fun c => h1 (g.mpr (Or.inr ⟨e, c⟩)))
theorem mr_s87 {post : SX → Prop} {J : Int32 → (Nat → Int32) → (Nat → Int32) → (Nat → Int32) → (Nat → Int32) → (Nat → Int32) → (Nat → Int32) → (Nat → Int32) → (Nat → Int32) → (Nat → Int32) → (Nat → Int32) → (Nat → Int32) → (Nat → Int32) → (Nat → Int32) → (Nat → Int32) → (Nat → Int32) → Prop} {i m kq : Nat} {v : Int32} (hm : m < 8) (hkq : kq < 16) (h : J (nI (i + 1)) rc rk rv mf rf (upd bk m (nI kq)) (upd bv m v) sk sv ps hd lm os ok ov) :
    wX_sortBuffer_87 post J (nI i) (nI kq) v (nI m) pc bz md fa fo lw hg rd bu mp sc se oe rc rk rv mf rf bk bv sk sv ps hd lm os ok ov := by
  have hc : (nI m).toNatClampNeg = m := nI_clamp (by omega)
  have hv : vp_in (nI m) 8 := vp_in_nI hm (by decide)
  exact And.intro hv (nm_r (e' := upd bk m (nI kq)) (by rw [hc, mr_nb (by omega)]) (And.intro hv (nm_r (e' := upd bv m v) (by rw [hc]) (nm_r (nI_1 i) h))))
theorem mr_s27 {post : SX → Prop} {J : Int32 → (Nat → Int32) → (Nat → Int32) → (Nat → Int32) → (Nat → Int32) → (Nat → Int32) → (Nat → Int32) → (Nat → Int32) → (Nat → Int32) → (Nat → Int32) → (Nat → Int32) → (Nat → Int32) → (Nat → Int32) → (Nat → Int32) → (Nat → Int32) → (Nat → Int32) → Prop} {p b i kq : Nat} {v : Int32} {bk0 bv0 : Nat → Int32} (hp : 1 ≤ p) (hp4 : p ≤ 4) (hb : b ≤ 8) (hi : i < b) (hkq : kq < 16)
    (C : ∀ bk' bv', mr_SO p b (i + 1) bk0 bv0 bk' bv' → J (nI (i + 1)) rc rk rv mf rf bk' bv' sk sv ps hd lm os ok ov) :
    ∀ (m n : Nat) (bk bv : Nat → Int32), m < n → m ≤ i → mr_SI p b i m kq bk0 bv0 (upd bk m (nI kq)) (upd bv m v) → wX_sortBuffer_27 post J (nI i) (nI kq) v (nI p) bz md fa fo lw hg rd (nI b) mp sc se oe n (nI m) rc rk rv mf rf bk bv sk sv ps hd lm os ok ov := by
  intro m
  induction m with
  | zero =>
    intro n bk bv hn hm h
    obtain ⟨n, rfl⟩ : ∃ k, n = k + 1 := ⟨n - 1, by omega⟩
    exact br_t (by decide) (mr_s87 (m := 0) (by omega) hkq (C _ _ (mr_SI_x hkq hm h (fun m' z => by omega))))
  | succ m ih =>
    intro n bk bv hn hm h
    obtain ⟨n, rfl⟩ : ∃ k, n = k + 1 := ⟨n - 1, by omega⟩
    have e0 : upd bk (m + 1) (nI kq) m = bk m := pk_un (by omega)
    have hK := h.1 m (by omega)
    rw [mr_K_c e0, e0] at hK
    obtain ⟨hq, eq⟩ := hK
    have hv : vp_in (nI m) 8 := vp_in_nI (by omega) (by decide)
    have hv1 : vp_in (nI (m + 1)) 8 := vp_in_nI (by omega) (by decide)
    refine br_f (nI_nle (by omega) (by omega)) ?_
    rw [nI_pred, nI_clamp (n := m) (by omega), nI_clamp (n := m + 1) (by omega)]
    refine And.intro hv ?_
    have key : ∀ x, x = bk m → wpX_comesAfter (fun r_13 => (((r_13 = 0 → (wX_sortBuffer_87 post J (nI i) (nI kq) v (nI (m + 1)) (nI p) bz md fa fo lw hg rd (nI b) mp sc se oe rc rk rv mf rf bk bv sk sv ps hd lm os ok ov)) ∧ (¬ r_13 = 0 → (vp_in (nI m) 8 ∧ (vp_in (nI (m + 1)) 8 ∧ ∀ bk1 : Nat → Int32, bk1 = upd bk (m + 1) (vp_nar .byte (bk m)) → (vp_in (nI m) 8 ∧ (vp_in (nI (m + 1)) 8 ∧ ∀ bv1 : Nat → Int32, bv1 = upd bv (m + 1) (bv m) → (∀ x4 : Int32, x4 = nI (m + 1) + (-1) → (wX_sortBuffer_27 post J (nI i) (nI kq) v (nI p) bz md fa fo lw hg rd (nI b) mp sc se oe n x4 rc rk rv mf rf bk1 bv1 sk sv ps hd lm os ok ov)))))))))) (nI p, bz, md, fa, fo, lw, hg, rd, nI b, mp, sc, se, oe, rc, rk, rv, mf, rf, bk, bv, sk, sv, ps, hd, lm, os, ok, ov) x (nI kq) := by
      intro x ex
      rw [ex, eq]
      refine mr_comes hp hp4 hq hkq ?_ ?_
      · intro hlt
        refine br_f (by decide) (And.intro hv (And.intro hv1 (nm_r (e' := upd bk (m + 1) (bk m)) ?_ (And.intro hv (And.intro hv1 (nm_e (nm_r (pk_m1 m) ?_)))))))
        · rw [mr_nb (by omega), ← eq]
        · exact ih n _ _ (by omega) (by omega) (mr_SI_s hi hm hkq h hlt)
      · intro hle
        refine br_t rfl (mr_s87 (m := m + 1) (by omega) hkq (C _ _ (mr_SI_x hkq hm h (fun m' z => ?_))))
        rw [show m' = m by omega, mr_K_c e0]
        exact hle
    exact key _ rfl
theorem mr_s2 {post : SX → Prop} {p b : Nat} {bk0 bv0 : Nat → Int32} (hp : 1 ≤ p) (hp4 : p ≤ 4) (hb : b ≤ 8)
    (C : ∀ bk' bv', mr_SO p b b bk0 bv0 bk' bv' → post (nI p, bz, md, fa, fo, lw, hg, rd, nI b, mp, sc, se, oe, rc, rk, rv, mf, rf, bk', bv', sk, sv, ps, hd, lm, os, ok, ov)) :
    ∀ (d i n : Nat) (bk bv : Nat → Int32), i + d = b → d < n → mr_SO p b i bk0 bv0 bk bv → wX_sortBuffer_2 post (nI p) bz md fa fo lw hg rd (nI b) mp sc se oe n (nI i) rc rk rv mf rf bk bv sk sv ps hd lm os ok ov := by
  intro d
  induction d with
  | zero =>
    intro i n bk bv hi hn h
    obtain ⟨n, rfl⟩ : ∃ k, n = k + 1 := ⟨n - 1, by omega⟩
    have e : i = b := by omega
    subst e
    exact br_t (nI_le (Nat.le_refl _) (by omega)) (C _ _ h)
  | succ d ih =>
    intro i n bk bv hi hn h
    obtain ⟨n, rfl⟩ : ∃ k, n = k + 1 := ⟨n - 1, by omega⟩
    have hv : vp_in (nI i) 8 := vp_in_nI (by omega) (by decide)
    have hc : (nI i).toNatClampNeg = i := nI_clamp (by omega)
    obtain ⟨hq, eq⟩ := h.1 i (by omega)
    refine br_f (nI_ge (by omega) (by omega)) (And.intro hv (nm_r (e' := nI (mr_K bk i)) (by rw [hc]; exact eq) (And.intro hv (nm_r (e' := bv i) (by rw [hc]) (Exists.intro (i + 1) ?_)))))
    exact mr_s27 hp hp4 hb (by omega) hq (fun bk' bv' h' => ih (i + 1) n bk' bv' (by omega) (by omega) h') i (i + 1) bk bv (by omega) (by omega) (mr_SI_0 (by omega) h)
theorem mr_sort {post : SX → Prop} {p b : Nat} (hp : 1 ≤ p) (hp4 : p ≤ 4) (hb1 : 1 ≤ b) (hb : b ≤ 8) (hR : mr_R bk b)
    (C : ∀ bk' bv', mr_SO p b b bk bv bk' bv' → post (nI p, bz, md, fa, fo, lw, hg, rd, nI b, mp, sc, se, oe, rc, rk, rv, mf, rf, bk', bv', sk, sv, ps, hd, lm, os, ok, ov)) : wpX_sortBuffer post (nI p, bz, md, fa, fo, lw, hg, rd, nI b, mp, sc, se, oe, rc, rk, rv, mf, rf, bk, bv, sk, sv, ps, hd, lm, os, ok, ov) :=
  Exists.intro (b + 1) (mr_s2 hp hp4 hb C (b - 1) 1 (b + 1) bk bv (by omega) (by omega) (mr_SO_1 hR))
end
end
section
/-! the combiner over the sorted buffer -/
def mr_CI (r p b kept i : Nat) (bk0 bv0 bk bv : Nat → Int32) : Prop :=
  (∀ j, i ≤ j → j < b → bk j = bk0 j ∧ bv j = bv0 j) ∧ mr_R bk b ∧ (∀ x y, x ≤ y → y < b → (x ≤ kept ∨ i ≤ x) → (y ≤ kept ∨ i ≤ y) → mr_rk p (mr_K bk x) ≤ mr_rk p (mr_K bk y)) ∧ ∀ k, mr_EQ r (mr_vl bk bv k (kept + 1)) (mr_vl bk0 bv0 k i)
theorem mr_CI_e {r p b kept i : Nat} {bk0 bv0 bk bv : Nat → Int32} (hr : r ≠ 4) (hk : kept < i) (hi : i < b) (e : bk i = bk kept) (h : mr_CI r p b kept i bk0 bv0 bk bv) :
    mr_CI r p b kept (i + 1) bk0 bv0 bk (upd bv kept (mr_cb r (bv kept) (bv i))) := by
  obtain ⟨h1, hR, hs, hE⟩ := h
  refine ⟨?_, hR, ?_, ?_⟩
  · intro j h2 h3
    rw [pk_un (by omega)]
    exact h1 j (by omega) h3
  · intro x y a c d f
    exact hs x y a c (by omega) (by omega)
  · intro k
    have hE' := hE k
    have hc : mr_vl bk (upd bv kept (mr_cb r (bv kept) (bv i))) k kept = mr_vl bk bv k kept := mr_vl_c (fun j hj => ⟨rfl, pk_un (by omega)⟩)
    obtain ⟨h2, h3⟩ := h1 i (by omega) hi
    by_cases z : bk kept = k
    · rw [mr_vl_t z] at hE' ⊢
      rw [mr_vl_t (by rw [← h2, e]; exact z), hc, pk_us, ← h3]
      have q : mr_EQ r (mr_vl bk bv k kept ++ [bv kept, bv i]) (mr_vl bk0 bv0 k i ++ [bv i]) := by
        have := mr_EQ_ap hE' (mr_EQ_rf r [bv i])
        rw [List.append_assoc] at this
        exact this
      exact mr_EQ_tr (mr_EQ_ap (mr_EQ_rf r _) (mr_EQ_sy (mr_EQ_cb hr _ _))) q
    · rw [mr_vl_f z] at hE' ⊢
      rw [mr_vl_f (by rw [← h2, e]; exact z), hc]
      exact hE'
theorem mr_CI_n {r p b kept i : Nat} {bk0 bv0 bk bv : Nat → Int32} (hk : kept < i) (hi : i < b) (h : mr_CI r p b kept i bk0 bv0 bk bv) :
    mr_CI r p b (kept + 1) (i + 1) bk0 bv0 (upd bk (kept + 1) (bk i)) (upd bv (kept + 1) (bv i)) := by
  obtain ⟨h1, hR, hs, hE⟩ := h
  refine ⟨?_, ?_, ?_, ?_⟩
  · intro j h2 h3
    rw [pk_un (by omega), pk_un (by omega)]
    exact h1 j (by omega) h3
  · rw [(hR i hi).2]
    exact mr_R_u hR (hR i hi).1
  · have hm : ∀ x, (x ≤ kept + 1 ∨ i + 1 ≤ x) → x < b → ∃ x', x' < b ∧ (x' ≤ kept ∨ i ≤ x') ∧ upd bk (kept + 1) (bk i) x = bk x' ∧ ((x = kept + 1 ∧ x' = i) ∨ (x ≠ kept + 1 ∧ x' = x)) := by
      intro x hx hb
      by_cases c : x = kept + 1
      · exact ⟨i, hi, Or.inr (Nat.le_refl _), by rw [c]; exact pk_us, Or.inl ⟨c, rfl⟩⟩
      · exact ⟨x, hb, by omega, pk_un c, Or.inr ⟨c, rfl⟩⟩
    intro x y a c d f
    obtain ⟨x', hx1, hx2, hx3, hx4⟩ := hm x d (by omega)
    obtain ⟨y', hy1, hy2, hy3, hy4⟩ := hm y f c
    rw [mr_K_c hx3, mr_K_c hy3]
    exact hs x' y' (by omega) hy1 hx2 hy2
  · intro k
    have hE' := hE k
    obtain ⟨h2, h3⟩ := h1 i (by omega) hi
    have hc : mr_vl (upd bk (kept + 1) (bk i)) (upd bv (kept + 1) (bv i)) k (kept + 1) = mr_vl bk bv k (kept + 1) := mr_vl_c (fun j hj => ⟨pk_un (by omega), pk_un (by omega)⟩)
    by_cases z : bk i = k
    · rw [mr_vl_t (n := kept + 1) (by rw [pk_us]; exact z), mr_vl_t (n := i) (by rw [← h2]; exact z), hc, pk_us, ← h3]
      exact mr_EQ_ap hE' (mr_EQ_rf r _)
    · rw [mr_vl_f (n := kept + 1) (by rw [pk_us]; exact z), mr_vl_f (n := i) (by rw [← h2]; exact z), hc]
      exact hE'
section
variable {pc bz md fa fo lw hg rd bu mp sc se oe : Int32} {rc rk rv mf rf bk bv sk sv ps hd lm os ok ov : Nat → Int32}
theorem mr_comb {post : Int32 → Prop} {r : Nat} (hr : r ≤ 4) (a b : Int32) (h : post (mr_cb r a b)) : wpX_combined post (pc, bz, md, fa, fo, lw, hg, nI r, bu, mp, sc, se, oe, rc, rk, rv, mf, rf, bk, bv, sk, sv, ps, hd, lm, os, ok, ov) a b := by
  unfold mr_cb at h
  refine pk_eq r 1 (fun e => ?_) (fun e => pk_eq r 2 (fun e2 => ?_) (fun e2 => ?_))
  · rw [if_pos e] at h
    exact br_c (fun z => by rw [if_pos z] at h; exact h) (fun z => by rw [if_neg z] at h; exact h)
  · rw [if_neg e, if_pos e2] at h
    exact br_c (fun z => by rw [if_pos z] at h; exact h) (fun z => by rw [if_neg z] at h; exact h)
  · rw [if_neg e, if_neg e2] at h
    exact h
theorem mr_c4 {post : SX → Prop} {r p b : Nat} {bk0 bv0 : Nat → Int32} (hr : r ≤ 4) (hr4 : r ≠ 4) (hb : b ≤ 8)
    (C : ∀ kept bk' bv', kept < b → mr_CI r p b kept b bk0 bv0 bk' bv' → post (pc, bz, md, fa, fo, lw, hg, nI r, nI (kept + 1), mp, sc, se, oe, rc, rk, rv, mf, rf, bk', bv', sk, sv, ps, hd, lm, os, ok, ov)) :
    ∀ (d i kept n : Nat) (bk bv : Nat → Int32), i + d = b → d < n → kept < i → mr_CI r p b kept i bk0 bv0 bk bv → wX_combineBuffer_4 post pc bz md fa fo lw hg (nI r) (nI b) mp sc se oe n (nI kept) (nI i) rc rk rv mf rf bk bv sk sv ps hd lm os ok ov := by
  intro d
  induction d with
  | zero =>
    intro i kept n bk bv hi hn hk h
    obtain ⟨n, rfl⟩ : ∃ k, n = k + 1 := ⟨n - 1, by omega⟩
    have e : i = b := by omega
    subst e
    exact br_t (nI_le (Nat.le_refl _) (by omega)) (nm_r (nI_1 kept) (C kept bk bv hk h))
  | succ d ih =>
    intro i kept n bk bv hi hn hk h
    obtain ⟨n, rfl⟩ : ∃ k, n = k + 1 := ⟨n - 1, by omega⟩
    have hv : vp_in (nI i) 8 := vp_in_nI (by omega) (by decide)
    have hw : vp_in (nI kept) 8 := vp_in_nI (by omega) (by decide)
    have hw1 : vp_in (nI (kept + 1)) 8 := vp_in_nI (by omega) (by decide)
    refine br_f (nI_ge (by omega) (by omega)) ?_
    rw [nI_clamp (n := i) (by omega), nI_clamp (n := kept) (by omega)]
    refine And.intro hv (And.intro hw (br_c (fun e => ?_) (fun e => ?_)))
    · refine And.intro hw (And.intro hv (mr_comb hr _ _ (And.intro hw (nm_e (nm_r (nI_1 i) ?_)))))
      exact ih (i + 1) kept n bk _ (by omega) (by omega) (by omega) (mr_CI_e hr4 hk (by omega) e h)
    · refine nm_r (nI_1 kept) (And.intro hv (And.intro hw1 (nm_r (e' := upd bk (kept + 1) (bk i)) ?_ (And.intro hv (And.intro hw1 (nm_r (e' := upd bv (kept + 1) (bv i)) ?_ (nm_r (nI_1 i) ?_)))))))
      · rw [nI_clamp (by omega)]
        obtain ⟨h1, h2⟩ := h.2.1 i (by omega)
        rw [h2, mr_nb (by omega)]
      · rw [nI_clamp (by omega)]
      · exact ih (i + 1) (kept + 1) n _ _ (by omega) (by omega) (by omega) (mr_CI_n hk (by omega) h)
theorem mr_combine {post : SX → Prop} {r p b : Nat} (hr : r ≤ 4) (hr4 : r ≠ 4) (hb1 : 1 ≤ b) (hb : b ≤ 8) (hR : mr_R bk b) (hs : ∀ x y, x ≤ y → y < b → mr_rk p (mr_K bk x) ≤ mr_rk p (mr_K bk y))
    (C : ∀ b' bk' bv', 1 ≤ b' → b' ≤ b → mr_R bk' b' → (∀ x y, x ≤ y → y < b' → mr_rk p (mr_K bk' x) ≤ mr_rk p (mr_K bk' y)) → (∀ k, mr_EQ r (mr_vl bk' bv' k b') (mr_vl bk bv k b)) → post (pc, bz, md, fa, fo, lw, hg, nI r, nI b', mp, sc, se, oe, rc, rk, rv, mf, rf, bk', bv', sk, sv, ps, hd, lm, os, ok, ov)) :
    wpX_combineBuffer post (pc, bz, md, fa, fo, lw, hg, nI r, nI b, mp, sc, se, oe, rc, rk, rv, mf, rf, bk, bv, sk, sv, ps, hd, lm, os, ok, ov) := by
  refine Exists.intro (b + 1) (mr_c4 (p := p) (bk0 := bk) (bv0 := bv) hr hr4 hb ?_ (b - 1) 1 0 (b + 1) bk bv (by omega) (by omega) (by omega) ?_)
  · intro kept bk' bv' hk h
    obtain ⟨h1, h2, h3, h4⟩ := h
    exact C (kept + 1) bk' bv' (by omega) (by omega) (mr_R_w h2 (by omega)) (fun x y a c => h3 x y a (by omega) (by omega) (by omega)) h4
  · exact ⟨fun _ _ _ => ⟨rfl, rfl⟩, hR, fun x y a c _ _ => hs x y a c, fun k => mr_EQ_rf r _⟩
end
end
section
/-! the spill file: its shape, an appended spill, the walk of spill() -/
def mr_SF (P : Nat → Nat → Nat) (p spc spe : Nat) (sk ps : Nat → Int32) : Prop :=
  P 0 0 = 0 ∧ P spc 0 = spe ∧ ∀ s, s < spc → P s 4 = P (s + 1) 0 ∧ (∀ q, q ≤ 4 → ps (5 * s + q) = nI (P s q)) ∧ ∀ q, q < 4 → P s q ≤ P s (q + 1) ∧ ∀ j, P s q ≤ j → j < P s (q + 1) → mr_K sk j % p = q ∧ ∀ i, P s q ≤ i → i ≤ j → mr_K sk i ≤ mr_K sk j
theorem mr_SF_m {P : Nat → Nat → Nat} {p spc spe : Nat} {sk ps : Nat → Int32} (h : mr_SF P p spc spe sk ps) {s q : Nat} (hs : s < spc) (hq : q ≤ 4) : P s 0 ≤ P s q ∧ P s q ≤ P s 4 := by
  have h0 : P s 0 ≤ P s 1 := ((h.2.2 s hs).2.2 0 (by omega)).1
  have h1 : P s 1 ≤ P s 2 := ((h.2.2 s hs).2.2 1 (by omega)).1
  have h2 : P s 2 ≤ P s 3 := ((h.2.2 s hs).2.2 2 (by omega)).1
  have h3 : P s 3 ≤ P s 4 := ((h.2.2 s hs).2.2 3 (by omega)).1
  have c : q = 0 ∨ q = 1 ∨ q = 2 ∨ q = 3 ∨ q = 4 := by omega
  rcases c with c | c | c | c | c <;> subst c <;> omega
theorem mr_SF_e {P : Nat → Nat → Nat} {p spc spe : Nat} {sk ps : Nat → Int32} (h : mr_SF P p spc spe sk ps) : ∀ d s : Nat, s + d = spc → P s 0 ≤ spe := by
  intro d
  induction d with
  | zero =>
    intro s hs
    have := h.2.1
    rw [← hs] at this
    exact Nat.le_of_eq this
  | succ d ih =>
    intro s hs
    have h1 := ih (s + 1) (by omega)
    have h2 := (mr_SF_m h (s := s) (q := 4) (by omega) (by omega)).1
    have h3 := (h.2.2 s (by omega)).1
    omega
theorem mr_SF_b {P : Nat → Nat → Nat} {p spc spe : Nat} {sk ps : Nat → Int32} (h : mr_SF P p spc spe sk ps) {s q : Nat} (hs : s < spc) (hq : q ≤ 4) : P s q ≤ spe := by
  have h1 := mr_SF_e h (spc - (s + 1)) (s + 1) (by omega)
  have h2 := (mr_SF_m h hs hq).2
  have h3 := (h.2.2 s hs).1
  omega
theorem mr_SF_c {P : Nat → Nat → Nat} {p spc spe : Nat} {sk ps sk' ps' : Nat → Int32} (h : mr_SF P p spc spe sk ps) (e1 : ∀ j, j < spe → sk' j = sk j) (e2 : ∀ j, j < 5 * spc → ps' j = ps j) : mr_SF P p spc spe sk' ps' := by
  refine ⟨h.1, h.2.1, ?_⟩
  intro s hs
  obtain ⟨h1, h2, h3⟩ := h.2.2 s hs
  refine ⟨h1, ?_, ?_⟩
  · intro q hq
    rw [e2 _ (by omega)]
    exact h2 q hq
  · intro q hq
    refine ⟨(h3 q hq).1, ?_⟩
    intro j ha hb
    have hb' := mr_SF_b h (s := s) (q := q + 1) hs (by omega)
    obtain ⟨h4, h5⟩ := (h3 q hq).2 j ha hb
    refine ⟨by rw [mr_K_c (e1 j (by omega))]; exact h4, ?_⟩
    intro i hi hj
    rw [mr_K_c (e1 j (by omega)), mr_K_c (e1 i (by omega))]
    exact h5 i hi hj
theorem mr_SF_0 {p : Nat} {sk ps : Nat → Int32} : mr_SF (fun _ _ => 0) p 0 0 sk ps := ⟨rfl, rfl, fun s hs => absurd hs (Nat.not_lt_zero s)⟩
theorem mr_rk_pa {p a b : Nat} (ha : a < 16) (hb : b < 16) (h : mr_rk p a ≤ mr_rk p b) : a % p ≤ b % p := by
  unfold mr_rk at h
  omega
theorem mr_rk_ke {p a b : Nat} (h : mr_rk p a ≤ mr_rk p b) (e : a % p = b % p) : a ≤ b := by
  unfold mr_rk at h
  omega
def mr_PE (P : Nat → Nat → Nat) (spc spe : Nat) (c : Nat → Nat) (b : Nat) : Nat → Nat → Nat := fun s q => if s < spc then P s q else if s = spc then spe + c q else spe + b
theorem mr_PE_lt {P : Nat → Nat → Nat} {spc spe : Nat} {c : Nat → Nat} {b s q : Nat} (h : s < spc) : mr_PE P spc spe c b s q = P s q := if_pos h
theorem mr_PE_eq {P : Nat → Nat → Nat} {spc spe : Nat} {c : Nat → Nat} {b q : Nat} : mr_PE P spc spe c b spc q = spe + c q := by
  unfold mr_PE
  rw [if_neg (Nat.lt_irrefl _), if_pos rfl]
theorem mr_PE_gt {P : Nat → Nat → Nat} {spc spe : Nat} {c : Nat → Nat} {b q : Nat} : mr_PE P spc spe c b (spc + 1) q = spe + b := by
  unfold mr_PE
  rw [if_neg (by omega), if_neg (by omega)]
theorem mr_SF_x {P : Nat → Nat → Nat} {p spc spe b : Nat} {sk ps sk' ps' bk : Nat → Int32} {c : Nat → Nat} (h : mr_SF P p spc spe sk ps) (e1 : ∀ j, j < spe → sk' j = sk j) (e2 : ∀ j, j < 5 * spc → ps' j = ps j) (hR : mr_R bk b)
    (hs : ∀ x y, x ≤ y → y < b → mr_rk p (mr_K bk x) ≤ mr_rk p (mr_K bk y)) (c0 : c 0 = 0) (c4 : c 4 = b) (hc : ∀ q, q < 4 → c q ≤ c (q + 1) ∧ ∀ j, c q ≤ j → j < c (q + 1) → mr_K bk j % p = q)
    (hps : ∀ q, q ≤ 4 → ps' (5 * spc + q) = nI (spe + c q)) (hsk : ∀ j, j < b → sk' (spe + j) = bk j) : mr_SF (mr_PE P spc spe c b) p (spc + 1) (spe + b) sk' ps' := by
  have h' := mr_SF_c h e1 e2
  have hP0 : mr_PE P spc spe c b spc 0 = spe := by rw [mr_PE_eq, c0]; rfl
  refine ⟨?_, mr_PE_gt, ?_⟩
  · by_cases z : spc = 0
    · have h1 := h.1
      have h2 := h.2.1
      rw [z] at h2
      subst z
      rw [mr_PE_eq, c0]
      omega
    · rw [mr_PE_lt (by omega)]
      exact h.1
  · intro s hs'
    by_cases e : s = spc
    · subst e
      refine ⟨?_, ?_, ?_⟩
      · rw [mr_PE_eq, mr_PE_gt, c4]
      · intro q hq
        rw [mr_PE_eq]
        exact hps q hq
      · intro q hq
        rw [mr_PE_eq, mr_PE_eq]
        obtain ⟨h1, h2⟩ := hc q hq
        have hle : c (q + 1) ≤ b := by
          have a1 : c 1 ≤ c 2 := (hc 1 (by omega)).1
          have a2 : c 2 ≤ c 3 := (hc 2 (by omega)).1
          have a3 : c 3 ≤ c 4 := (hc 3 (by omega)).1
          have d : q + 1 = 1 ∨ q + 1 = 2 ∨ q + 1 = 3 ∨ q + 1 = 4 := by omega
          rcases d with d | d | d | d <;> rw [d] <;> omega
        refine ⟨by omega, ?_⟩
        intro j ha hb
        have ej : sk' j = bk (j - spe) := by
          have := hsk (j - spe) (by omega)
          rw [show spe + (j - spe) = j by omega] at this
          exact this
        rw [mr_K_c ej]
        refine ⟨h2 _ (by omega) (by omega), ?_⟩
        intro i hi hj
        have ei : sk' i = bk (i - spe) := by
          have := hsk (i - spe) (by omega)
          rw [show spe + (i - spe) = i by omega] at this
          exact this
        rw [mr_K_c ei]
        exact mr_rk_ke (hs _ _ (by omega) (by omega)) ((h2 _ (by omega) (by omega)).trans (h2 _ (by omega) (by omega)).symm)
    · have hlt : s < spc := by omega
      obtain ⟨h1, h2, h3⟩ := h'.2.2 s hlt
      have e1' : ∀ q, mr_PE P spc spe c b s q = P s q := fun q => mr_PE_lt hlt
      refine ⟨?_, ?_, ?_⟩
      · rw [e1', h1]
        by_cases z : s + 1 = spc
        · rw [z, hP0]
          exact h.2.1
        · rw [mr_PE_lt (by omega)]
      · intro q hq
        rw [e1']
        exact h2 q hq
      · intro q hq
        rw [e1', e1']
        exact h3 q hq
def mr_CP (e0 i : Nat) (bk bv sk0 sv0 sk sv : Nat → Int32) : Prop := (∀ j, j < e0 → sk j = sk0 j ∧ sv j = sv0 j) ∧ ∀ j, j < i → sk (e0 + j) = bk j ∧ sv (e0 + j) = bv j
theorem mr_CP_s {e0 i : Nat} {bk bv sk0 sv0 sk sv : Nat → Int32} (h : mr_CP e0 i bk bv sk0 sv0 sk sv) : mr_CP e0 (i + 1) bk bv sk0 sv0 (upd sk (e0 + i) (bk i)) (upd sv (e0 + i) (bv i)) := by
  refine ⟨?_, ?_⟩
  · intro j hj
    rw [pk_un (by omega), pk_un (by omega)]
    exact h.1 j hj
  · intro j hj
    by_cases e : j = i
    · subst e
      exact ⟨pk_us, pk_us⟩
    · rw [pk_un (by omega), pk_un (by omega)]
      exact h.2 j (by omega)
def mr_PH (p e0 s0 q i : Nat) (bk ps0 : Nat → Int32) (c : Nat → Nat) (ps : Nat → Int32) : Prop :=
  c 0 = 0 ∧ c q = i ∧ (∀ x, x < q → ps (5 * s0 + x) = nI (e0 + c x) ∧ c x ≤ c (x + 1) ∧ ∀ j, c x ≤ j → j < c (x + 1) → mr_K bk j % p = x) ∧ ∀ j, j < 5 * s0 → ps j = ps0 j
theorem mr_PH_s {p e0 s0 q i i' : Nat} {bk ps0 : Nat → Int32} {c : Nat → Nat} {ps : Nat → Int32} (h : mr_PH p e0 s0 q i bk ps0 c ps) (hi : i ≤ i') (hq : ∀ j, i ≤ j → j < i' → mr_K bk j % p = q) :
    mr_PH p e0 s0 (q + 1) i' bk ps0 (fun x => if x = q + 1 then i' else c x) (upd ps (5 * s0 + q) (nI (e0 + i))) := by
  obtain ⟨h0, hc, hx, ho⟩ := h
  refine ⟨?_, if_pos rfl, ?_, ?_⟩
  · show (if 0 = q + 1 then i' else c 0) = 0
    rw [if_neg (by omega)]
    exact h0
  · intro x hx'
    show _ = nI (e0 + (if x = q + 1 then i' else c x)) ∧ (if x = q + 1 then i' else c x) ≤ (if x + 1 = q + 1 then i' else c (x + 1)) ∧ ∀ j, (if x = q + 1 then i' else c x) ≤ j → j < (if x + 1 = q + 1 then i' else c (x + 1)) → _
    rw [if_neg (show ¬ x = q + 1 by omega)]
    by_cases e : x = q
    · subst e
      rw [if_pos rfl, hc]
      exact ⟨pk_us, hi, hq⟩
    · rw [if_neg (show ¬ x + 1 = q + 1 by omega), pk_un (by omega)]
      exact hx x (by omega)
  · intro j hj
    rw [pk_un (by omega)]
    exact ho j hj
section
variable {pc bz md fa fo lw hg rd bu mp sc se oe : Int32} {rc rk rv mf rf bk bv sk sv ps hd lm os ok ov : Nat → Int32}
theorem mr_p43 {post : SX → Prop} {J : Int32 → Int32 → Int32 → (Nat → Int32) → (Nat → Int32) → (Nat → Int32) → (Nat → Int32) → (Nat → Int32) → (Nat → Int32) → (Nat → Int32) → (Nat → Int32) → (Nat → Int32) → (Nat → Int32) → (Nat → Int32) → (Nat → Int32) → (Nat → Int32) → (Nat → Int32) → (Nat → Int32) → Prop} {p b q e0 i0 : Nat} {sk0 sv0 : Nat → Int32} (hp : 1 ≤ p) (hp4 : p ≤ 4) (hb : b ≤ 8) (hq4 : q < 4) (he : e0 + b ≤ 64) (hR : mr_R bk b)
    (hs : ∀ x y, x ≤ y → y < b → mr_rk p (mr_K bk x) ≤ mr_rk p (mr_K bk y))
    (C : ∀ i' sk' sv', i0 ≤ i' → i' ≤ b → (∀ j, i0 ≤ j → j < i' → mr_K bk j % p = q) → (∀ j, i' ≤ j → j < b → q + 1 ≤ mr_K bk j % p) → mr_CP e0 i' bk bv sk0 sv0 sk' sv' → J (nI i') (nI (q + 1)) (nI (e0 + i')) rc rk rv mf rf bk bv sk' sv' ps hd lm os ok ov) :
    ∀ (d i n : Nat) (sk sv : Nat → Int32), i + d = b → d < n → i0 ≤ i → (∀ j, i0 ≤ j → j < i → mr_K bk j % p = q) → (∀ j, i ≤ j → j < b → q ≤ mr_K bk j % p) → mr_CP e0 i bk bv sk0 sv0 sk sv →
      wX_spill_43 post J (nI q) (nI p) bz md fa fo lw hg rd (nI b) mp sc oe n (nI i) (nI (e0 + i)) rc rk rv mf rf bk bv sk sv ps hd lm os ok ov := by
  intro d
  induction d with
  | zero =>
    intro i n sk sv hi hn h0 h1 h2 h3
    obtain ⟨n, rfl⟩ : ∃ k, n = k + 1 := ⟨n - 1, by omega⟩
    have e : i = b := by omega
    subst e
    exact br_t (nI_le (Nat.le_refl _) (by omega)) (nm_r (nI_1 q) (C i sk sv h0 (Nat.le_refl _) h1 (fun j a b => by omega) h3))
  | succ d ih =>
    intro i n sk sv hi hn h0 h1 h2 h3
    obtain ⟨n, rfl⟩ : ∃ k, n = k + 1 := ⟨n - 1, by omega⟩
    obtain ⟨hk, ek⟩ := hR i (by omega)
    have hv : vp_in (nI i) 8 := vp_in_nI (by omega) (by decide)
    have hw : vp_in (nI (e0 + i)) 64 := vp_in_nI (by omega) (by decide)
    have hm : mr_K bk i % p < 16 := Nat.lt_of_le_of_lt (Nat.mod_le _ _) hk
    have hx : bk i - bk i / nI p * nI p = nI (mr_K bk i % p) := by
      rw [ek, pk_rem (by omega) (by omega) (by omega), mr_K_of ek (by omega)]
    refine br_f (nI_ge (by omega) (by omega)) ?_
    rw [nI_clamp (n := i) (by omega), nI_clamp (n := e0 + i) (by omega)]
    refine And.intro hv (And.intro (nI_ne0 (by omega) (by omega)) (pk_eq (mr_K bk i % p) q (fun e => ?_) (fun e => ?_) hx rfl (by omega) (by omega)))
    · refine And.intro hv (And.intro hw (nm_r (e' := upd sk (e0 + i) (bk i)) ?_ (And.intro hv (And.intro hw (nm_e (nm_r (nI_1 (e0 + i)) (nm_r (nI_1 i) ?_)))))))
      · rw [ek, mr_nb (by omega)]
      · refine ih (i + 1) n _ _ (by omega) (by omega) (by omega) ?_ (fun j a c => h2 j (by omega) c) (mr_CP_s h3)
        intro j a c
        by_cases z : j = i
        · rw [z]; exact e
        · exact h1 j a (by omega)
    · refine nm_r (nI_1 q) (C i sk sv h0 (by omega) h1 ?_ h3)
      intro j a c
      have g1 := h2 i (by omega) (by omega)
      have g2 := mr_rk_pa hk (hR j c).1 (hs i j a c)
      omega
def mr_SB (p b spc spe : Nat) (bk bv sk sv ps : Nat → Int32) (P' : Nat → Nat → Nat) (sk' sv' ps' : Nat → Int32) : Prop :=
  mr_SF P' p (spc + 1) (spe + b) sk' ps' ∧ mr_R sk' (spe + b) ∧ (∀ j, j < spe → sk' j = sk j ∧ sv' j = sv j) ∧ (∀ j, j < 5 * spc → ps' j = ps j) ∧ ∀ k, mr_vl sk' sv' k (spe + b) = mr_vl sk sv k spe ++ mr_vl bk bv k b
theorem mr_p20 {post : SX → Prop} {p b spc spe : Nat} {P : Nat → Nat → Nat} {sk0 sv0 ps0 : Nat → Int32} (hp : 1 ≤ p) (hp4 : p ≤ 4) (hb : b ≤ 8) (hsc : spc < 32) (he : spe + b ≤ 64) (hR : mr_R bk b)
    (hs : ∀ x y, x ≤ y → y < b → mr_rk p (mr_K bk x) ≤ mr_rk p (mr_K bk y)) (hSF : mr_SF P p spc spe sk0 ps0) (hRs : mr_R sk0 spe)
    (C : ∀ P' sk' sv' ps', mr_SB p b spc spe bk bv sk0 sv0 ps0 P' sk' sv' ps' → post (nI p, bz, md, fa, fo, lw, hg, rd, 0, mp, nI (spc + 1), nI (spe + b), oe, rc, rk, rv, mf, rf, bk, bv, sk', sv', ps', hd, lm, os, ok, ov)) :
    ∀ (d q n i : Nat) (c : Nat → Nat) (sk sv ps : Nat → Int32), q + d = 4 → d < n → i ≤ b → mr_CP spe i bk bv sk0 sv0 sk sv → mr_PH p spe spc q i bk ps0 c ps → (∀ j, i ≤ j → j < b → q ≤ mr_K bk j % p) →
      wX_spill_20 post (nI p) bz md fa fo lw hg rd (nI b) mp (nI spc) oe n (nI i) (nI q) (nI (spe + i)) rc rk rv mf rf bk bv sk sv ps hd lm os ok ov := by
  have e5 : ∀ x, (5 : Int32) * nI spc + nI x = nI (5 * spc + x) := fun x => by rw [show (5 : Int32) = nI 5 from rfl, pk_mul, nI_add]
  intro d
  induction d with
  | zero =>
    intro q n i c sk sv ps hq hn hi h1 h2 h3
    obtain ⟨n, rfl⟩ : ∃ k, n = k + 1 := ⟨n - 1, by omega⟩
    have e : q = 4 := by omega
    subst e
    have hib : i = b := by
      by_cases z : i = b
      · exact z
      · have := h3 i (Nat.le_refl _) (by omega)
        have := Nat.mod_lt (mr_K bk i) (show p > 0 by omega)
        omega
    subst hib
    refine br_t (nI_le (Nat.le_refl _) (by omega)) ?_
    rw [show (5 : Int32) * nI spc + 4 = nI (5 * spc + 4) from e5 4, nI_clamp (n := 5 * spc + 4) (by omega), mr_nb8 (by omega)]
    refine And.intro (vp_in_nI (by omega) (by decide)) (nm_e (nm_r (nI_1 spc) (C (mr_PE P spc spe c i) sk sv _ ?_)))
    obtain ⟨c0, c4, hx, ho⟩ := h2
    refine ⟨?_, ?_, h1.1, ?_, fun k => mr_vl_app h1.1 h1.2⟩
    · refine mr_SF_x hSF (fun j hj => (h1.1 j hj).1) ?_ hR hs c0 c4 (fun q hq => (hx q hq).2) ?_ (fun j hj => (h1.2 j hj).1)
      · intro j hj
        rw [pk_un (by omega)]
        exact ho j hj
      · intro q hq
        by_cases z : q = 4
        · subst z
          rw [pk_us, c4]
        · rw [pk_un (by omega)]
          exact (hx q (by omega)).1
    · intro j hj
      by_cases z : j < spe
      · rw [mr_K_c (h1.1 j z).1, (h1.1 j z).1]
        exact hRs j z
      · have ej : sk j = bk (j - spe) := by
          have := (h1.2 (j - spe) (by omega)).1
          rw [show spe + (j - spe) = j by omega] at this
          exact this
        rw [mr_K_c ej, ej]
        exact hR _ (by omega)
    · intro j hj
      rw [pk_un (by omega)]
      exact ho j hj
  | succ d ih =>
    intro q n i c sk sv ps hq hn hi h1 h2 h3
    obtain ⟨n, rfl⟩ : ∃ k, n = k + 1 := ⟨n - 1, by omega⟩
    refine br_f (nI_ge (b := 4) (by omega) (by decide)) ?_
    rw [e5 q, nI_clamp (n := 5 * spc + q) (by omega), mr_nb8 (by omega)]
    refine And.intro (vp_in_nI (by omega) (by decide)) (nm_e (Exists.intro (b + 1) ?_))
    refine mr_p43 (i0 := i) (sk0 := sk0) (sv0 := sv0) hp hp4 hb (by omega) he hR hs ?_ (b - i) i (b + 1) sk sv (by omega) (by omega) (Nat.le_refl _) (fun j a c => by omega) h3 h1
    intro i' sk' sv' g1 g2 g3 g4 g5
    exact ih (q + 1) n i' _ sk' sv' _ (by omega) (by omega) g2 g5 (mr_PH_s h2 g1 g3) g4
def mr_SPO (p r b spc spe spe' : Nat) (bk bv sk sv ps : Nat → Int32) (P' : Nat → Nat → Nat) (sk' sv' ps' : Nat → Int32) : Prop :=
  mr_SF P' p (spc + 1) spe' sk' ps' ∧ mr_R sk' spe' ∧ spe ≤ spe' ∧ spe' ≤ spe + b ∧ (∀ j, j < spe → sk' j = sk j ∧ sv' j = sv j) ∧ (∀ j, j < 5 * spc → ps' j = ps j) ∧ ∀ k, mr_EQ r (mr_vl sk' sv' k spe') (mr_vl sk sv k spe ++ mr_vl bk bv k b)
theorem mr_p20s {post : SX → Prop} {p r b b0 spc spe : Nat} {P : Nat → Nat → Nat} {bk0 bv0 : Nat → Int32} (hp : 1 ≤ p) (hp4 : p ≤ 4) (hb : b ≤ 8) (hb0 : b ≤ b0) (hsc : spc < 32) (he : spe + b ≤ 64) (hR : mr_R bk b)
    (hs : ∀ x y, x ≤ y → y < b → mr_rk p (mr_K bk x) ≤ mr_rk p (mr_K bk y)) (hSF : mr_SF P p spc spe sk ps) (hRs : mr_R sk spe) (hE : ∀ k, mr_EQ r (mr_vl bk bv k b) (mr_vl bk0 bv0 k b0))
    (C : ∀ P' spe' bk' bv' sk' sv' ps', mr_SPO p r b0 spc spe spe' bk0 bv0 sk sv ps P' sk' sv' ps' → post (nI p, bz, md, fa, fo, lw, hg, nI r, 0, mp, nI (spc + 1), nI spe', oe, rc, rk, rv, mf, rf, bk', bv', sk', sv', ps', hd, lm, os, ok, ov)) :
    wX_spill_20 post (nI p) bz md fa fo lw hg (nI r) (nI b) mp (nI spc) oe 5 0 0 (nI spe) rc rk rv mf rf bk bv sk sv ps hd lm os ok ov := by
  refine mr_p20 (spe := spe) (sk0 := sk) (sv0 := sv) (ps0 := ps) hp hp4 hb hsc he hR hs hSF hRs ?_ 4 0 5 0 (fun _ => 0) sk sv ps (by omega) (by omega) (by omega) ⟨fun _ _ => ⟨rfl, rfl⟩, fun j hj => absurd hj (Nat.not_lt_zero j)⟩ ⟨rfl, rfl, fun x hx => absurd hx (Nat.not_lt_zero x), fun _ _ => rfl⟩ (fun _ _ _ => Nat.zero_le _)
  intro P' sk' sv' ps' h
  refine C P' (spe + b) bk bv sk' sv' ps' ⟨h.1, h.2.1, by omega, by omega, h.2.2.1, h.2.2.2.1, ?_⟩
  intro k
  exact mr_EQ_tr (mr_EQ_of (h.2.2.2.2 k)) (mr_EQ_ap (mr_EQ_rf r _) (hE k))
theorem mr_spill {post : SX → Prop} {p r b spc spe : Nat} {P : Nat → Nat → Nat} (hp : 1 ≤ p) (hp4 : p ≤ 4) (hr : r ≤ 4) (hb1 : 1 ≤ b) (hb : b ≤ 8) (hsc : spc < 32) (he : spe + b ≤ 64) (hR : mr_R bk b) (hSF : mr_SF P p spc spe sk ps) (hRs : mr_R sk spe)
    (C : ∀ P' spe' bk' bv' sk' sv' ps', mr_SPO p r b spc spe spe' bk bv sk sv ps P' sk' sv' ps' → post (nI p, bz, md, fa, fo, lw, hg, nI r, 0, mp, nI (spc + 1), nI spe', oe, rc, rk, rv, mf, rf, bk', bv', sk', sv', ps', hd, lm, os, ok, ov)) :
    wpX_spill post (nI p, bz, md, fa, fo, lw, hg, nI r, nI b, mp, nI spc, nI spe, oe, rc, rk, rv, mf, rf, bk, bv, sk, sv, ps, hd, lm, os, ok, ov) := by
  unfold wpX_spill
  refine mr_sort hp hp4 hb1 hb hR ?_
  intro bk1 bv1 h1
  refine pk_eq r 4 (fun e => ?_) (fun e => ?_)
  · refine Exists.intro 5 (mr_p20s hp hp4 hb (Nat.le_refl _) hsc he h1.1 h1.2.2 hSF hRs (fun k => mr_EQ_of (h1.2.1 k)) C)
  · refine mr_combine (p := p) hr e hb1 hb h1.1 h1.2.2 ?_
    intro b2 bk2 bv2 g1 g2 g3 g4 g5
    exact Exists.intro 5 (mr_p20s hp hp4 (by omega) g2 hsc (by omega) g3 g4 hSF hRs (fun k => mr_EQ_tr (g5 k) (mr_EQ_of (h1.2.1 k))) C)
end
end
section
/-! the map tasks: pure content, then the walks of mapRecord and mapSplit -/
def mr_kf (md x : Int32) : Int32 := if 0 ≤ x - x / md * md then x - x / md * md else x - x / md * md + md
theorem mr_kf_n {m : Nat} (h1 : 1 ≤ m) (h16 : m ≤ 16) (x : Int32) : ∃ q, q < 16 ∧ mr_kf (nI m) x = nI q := by
  have hm : (nI m).toInt = (m : Int) := nI_toInt (by omega)
  have hy := rem_toInt x (nI m)
  rw [hm] at hy
  have hb := tmod_bounds (a := x.toInt) (M := (m : Int)) (by omega)
  unfold mr_kf
  generalize x - x / nI m * nI m = y at *
  have h0 : (0 : Int32).toInt = 0 := by decide
  by_cases c : 0 ≤ y
  · rw [if_pos c]
    obtain ⟨j, hj, e⟩ := nI_of (Int32.not_lt.mpr c)
    refine ⟨j, ?_, e⟩
    rw [e, nI_toInt hj] at hy
    omega
  · rw [if_neg c]
    rw [Int32.le_iff_toInt_le, h0] at c
    have hz : (y + nI m).toInt = y.toInt + m := by
      rw [Int32.toInt_add, hm]
      exact Int.bmod_eq_of_le (by omega) (by omega)
    have hn : ¬ y + nI m < 0 := by
      rw [Int32.lt_iff_toInt_lt, hz, h0]
      omega
    obtain ⟨j, hj, e⟩ := nI_of hn
    refine ⟨j, ?_, e⟩
    rw [e, nI_toInt hj] at hz
    omega
def mr_C (rc rv : Nat → Int32) (lw hg : Int32) (n : Nat) : Bool := decide (nI (n % 16) < rc (n / 16)) && (!decide (rv n < lw) && !decide (hg < rv n))
theorem mr_C_t {rc rv : Nat → Int32} {lw hg : Int32} {n : Nat} (h1 : nI (n % 16) < rc (n / 16)) (h2 : ¬ rv n < lw) (h3 : ¬ hg < rv n) : mr_C rc rv lw hg n = true := by
  unfold mr_C
  rw [decide_eq_true h1, decide_eq_false h2, decide_eq_false h3]
  rfl
theorem mr_C_1 {rc rv : Nat → Int32} {lw hg : Int32} {n : Nat} (h1 : ¬ nI (n % 16) < rc (n / 16)) : mr_C rc rv lw hg n = false := by
  unfold mr_C
  rw [decide_eq_false h1]
  rfl
theorem mr_C_2 {rc rv : Nat → Int32} {lw hg : Int32} {n : Nat} (h1 : rv n < lw) : mr_C rc rv lw hg n = false := by
  unfold mr_C
  rw [decide_eq_true h1]
  exact Bool.and_false _
theorem mr_C_3 {rc rv : Nat → Int32} {lw hg : Int32} {n : Nat} (h1 : hg < rv n) : mr_C rc rv lw hg n = false := by
  unfold mr_C
  rw [decide_eq_true h1]
  show (_ && (_ && false)) = false
  rw [Bool.and_false, Bool.and_false]
def mr_RK (md lw hg : Int32) (rc rk rv : Nat → Int32) (n : Nat) : Int32 := if mr_C rc rv lw hg n = true then mr_kf md (rk n) else -1
def mr_W (r : Nat) (fa fo : Int32) (rv : Nat → Int32) (n : Nat) : Int32 := if r = 3 then 1 else fa * rv n + fo
def mr_mc (c : Nat → Bool) : Nat → Nat
  | 0 => 0
  | n + 1 => mr_mc c n + (if c n = true then 1 else 0)
theorem mr_mc_t {c : Nat → Bool} {n : Nat} (h : c n = true) : mr_mc c (n + 1) = mr_mc c n + 1 := by
  show mr_mc c n + (if c n = true then 1 else 0) = _
  rw [if_pos h]
theorem mr_mc_f {c : Nat → Bool} {n : Nat} (h : c n = false) : mr_mc c (n + 1) = mr_mc c n := by
  show mr_mc c n + (if c n = true then 1 else 0) = _
  rw [if_neg (by rw [h]; decide)]
  rfl
theorem mr_mc_g {c : Nat → Bool} {m : Nat} : ∀ {n : Nat}, m ≤ n → (∀ j, m ≤ j → j < n → c j = false) → mr_mc c n = mr_mc c m := by
  intro n
  induction n with
  | zero => intro h _; rw [show m = 0 by omega]
  | succ n ih =>
    intro h g
    by_cases e : m = n + 1
    · rw [e]
    · rw [mr_mc_f (g n (by omega) (by omega)), ih (by omega) (fun j h1 h2 => g j h1 (by omega))]
theorem mr_mc_le {c : Nat → Bool} : ∀ n : Nat, mr_mc c n ≤ n := by
  intro n
  induction n with
  | zero => exact Nat.le_refl _
  | succ n ih =>
    show mr_mc c n + (if c n = true then 1 else 0) ≤ n + 1
    by_cases h : c n = true
    · rw [if_pos h]; omega
    · rw [if_neg h]; omega
theorem mr_RK_f {md lw hg : Int32} {rc rk rv : Nat → Int32} {n : Nat} (h : mr_C rc rv lw hg n = false) : mr_RK md lw hg rc rk rv n = -1 := by
  unfold mr_RK
  rw [if_neg (by rw [h]; decide)]
theorem mr_RK_t {md lw hg : Int32} {rc rk rv : Nat → Int32} {n : Nat} (h : mr_C rc rv lw hg n = true) : mr_RK md lw hg rc rk rv n = mr_kf md (rk n) := by
  unfold mr_RK
  rw [if_pos h]
theorem mr_m1 {q : Nat} (h : q < 16) : (-1 : Int32) ≠ nI q := by
  intro e
  have h1 : (-1 : Int32).toInt = -1 := by decide
  rw [e, nI_toInt (by omega)] at h1
  omega
def mr_MC (p r : Nat) (RK W : Nat → Int32) (spc spe b n : Nat) (bk bv sk sv ps : Nat → Int32) : Prop :=
  (∃ P, mr_SF P p spc spe sk ps) ∧ mr_R sk spe ∧ mr_R bk b ∧ ∀ q, q < 16 → mr_EQ r (mr_vl sk sv (nI q) spe ++ mr_vl bk bv (nI q) b) (mr_vl RK W (nI q) n)
def mr_XT (spc spe : Nat) (sk sv ps sk' sv' ps' : Nat → Int32) : Prop := (∀ j, j < spe → sk' j = sk j ∧ sv' j = sv j) ∧ ∀ j, j < 5 * spc → ps' j = ps j
theorem mr_XT_rf {spc spe : Nat} {sk sv ps : Nat → Int32} : mr_XT spc spe sk sv ps sk sv ps := ⟨fun _ _ => ⟨rfl, rfl⟩, fun _ _ => rfl⟩
theorem mr_XT_tr {spc spe spc' spe' : Nat} {sk sv ps sk' sv' ps' sk2 sv2 ps2 : Nat → Int32} (h : mr_XT spc spe sk sv ps sk' sv' ps') (g : mr_XT spc' spe' sk' sv' ps' sk2 sv2 ps2) (h1 : spc ≤ spc') (h2 : spe ≤ spe') : mr_XT spc spe sk sv ps sk2 sv2 ps2 := by
  refine ⟨?_, ?_⟩
  · intro j hj
    rw [(g.1 j (by omega)).1, (g.1 j (by omega)).2]
    exact h.1 j hj
  · intro j hj
    rw [g.2 j (by omega)]
    exact h.2 j hj
theorem mr_MC_xt {p r : Nat} {RK W : Nat → Int32} {spc spe n : Nat} {bk bv sk sv ps bk' bv' sk' sv' ps' : Nat → Int32} (h : mr_MC p r RK W spc spe 0 n bk bv sk sv ps) (x : mr_XT spc spe sk sv ps sk' sv' ps') : mr_MC p r RK W spc spe 0 n bk' bv' sk' sv' ps' := by
  obtain ⟨⟨P, hP⟩, hR, _, hE⟩ := h
  refine ⟨⟨P, mr_SF_c hP (fun j hj => (x.1 j hj).1) x.2⟩, mr_R_c hR (fun j hj => (x.1 j hj).1), fun j hj => absurd hj (Nat.not_lt_zero j), ?_⟩
  intro q hq
  rw [mr_vl_c (a := sk') (v := sv') (b := sk) (w := sv) x.1]
  exact hE q hq
theorem mr_MC_g {p r : Nat} {RK W : Nat → Int32} {spc spe b n n' : Nat} {bk bv sk sv ps : Nat → Int32} (h : mr_MC p r RK W spc spe b n bk bv sk sv ps) (hn : n ≤ n') (g : ∀ j, n ≤ j → j < n' → RK j = -1) : mr_MC p r RK W spc spe b n' bk bv sk sv ps := by
  refine ⟨h.1, h.2.1, h.2.2.1, ?_⟩
  intro q hq
  rw [mr_vl_g hn (fun j h1 h2 => by rw [g j h1 h2]; exact mr_m1 hq)]
  exact h.2.2.2 q hq
theorem mr_MC_put {p r : Nat} {RK W : Nat → Int32} {spc spe b n q : Nat} {bk bv sk sv ps : Nat → Int32} (h : mr_MC p r RK W spc spe b n bk bv sk sv ps) (hq : q < 16) (e : RK n = nI q) : mr_MC p r RK W spc spe (b + 1) (n + 1) (upd bk b (nI q)) (upd bv b (W n)) sk sv ps := by
  obtain ⟨hP, hR, hB, hE⟩ := h
  refine ⟨hP, hR, ?_, ?_⟩
  · intro j hj
    by_cases z : j = b
    · subst z
      have y : upd bk j (nI q) j = nI q := pk_us
      rw [mr_K_of y (by omega)]
      exact ⟨hq, y⟩
    · have y : upd bk b (nI q) j = bk j := pk_un z
      rw [mr_K_c y, y]
      exact hB j (by omega)
  · intro k hk
    have hc : mr_vl (upd bk b (nI q)) (upd bv b (W n)) (nI k) b = mr_vl bk bv (nI k) b := mr_vl_c (fun j hj => ⟨pk_un (by omega), pk_un (by omega)⟩)
    by_cases z : RK n = nI k
    · rw [mr_vl_t (n := n) z, mr_vl_t (n := b) (by rw [pk_us, ← e]; exact z), hc, pk_us, ← List.append_assoc]
      exact mr_EQ_ap (hE k hk) (mr_EQ_rf r _)
    · rw [mr_vl_f (n := n) z, mr_vl_f (n := b) (by rw [pk_us, ← e]; exact z), hc]
      exact hE k hk
theorem mr_MC_sp {p r : Nat} {RK W : Nat → Int32} {spc spe spe' b n : Nat} {P' : Nat → Nat → Nat} {bk bv sk sv ps bk' bv' sk' sv' ps' : Nat → Int32} (h : mr_MC p r RK W spc spe b n bk bv sk sv ps) (g : mr_SPO p r b spc spe spe' bk bv sk sv ps P' sk' sv' ps') : mr_MC p r RK W (spc + 1) spe' 0 n bk' bv' sk' sv' ps' := by
  obtain ⟨g1, g2, g3, g4, g5, g6, g7⟩ := g
  refine ⟨⟨P', g1⟩, g2, fun j hj => absurd hj (Nat.not_lt_zero j), ?_⟩
  intro q hq
  have z : mr_vl bk' bv' (nI q) 0 = [] := rfl
  rw [z, List.append_nil]
  exact mr_EQ_tr (g7 (nI q)) (h.2.2.2 q hq)
section
variable {pc bz md fa fo lw hg rd bu mp sc se oe : Int32} {rc rk rv mf rf bk bv sk sv ps hd lm os ok ov : Nat → Int32} {p r bs m : Nat}
theorem mr_r72 {post : SX → Prop} {b q : Nat} {x : Int32} (hr : r ≤ 4) (hb : b < 8) (hq : q < 16) (h : post (pc, bz, md, fa, fo, lw, hg, nI r, nI (b + 1), mp, sc, se, oe, rc, rk, rv, mf, rf, upd bk b (nI q), upd bv b (if r = 3 then 1 else fa * x + fo), sk, sv, ps, hd, lm, os, ok, ov)) :
    wX_mapRecord_72 post x (nI q) pc bz md fa fo lw hg (nI r) (nI b) mp sc se oe rc rk rv mf rf bk bv sk sv ps hd lm os ok ov := by
  have hv : vp_in (nI b) 8 := vp_in_nI hb (by decide)
  have hc : (nI b).toNatClampNeg = b := nI_clamp (by omega)
  refine And.intro hv (nm_r (e' := upd bk b (nI q)) (by rw [hc, mr_nb8 (by omega)]) (pk_eq r 3 (fun e => ?_) (fun e => ?_)))
  · rw [if_pos e] at h
    exact And.intro hv (nm_r (e' := upd bv b 1) (by rw [hc]) (nm_r (nI_1 b) h))
  · rw [if_neg e] at h
    exact And.intro hv (nm_r (e' := upd bv b (fa * x + fo)) (by rw [hc]) (nm_r (nI_1 b) h))
theorem mr_r57 {post : SX → Prop} {RK W : Nat → Int32} {b q spc spe n : Nat} {x : Int32} (hp : 1 ≤ p) (hp4 : p ≤ 4) (hr : r ≤ 4) (hbs : 2 ≤ bs) (hbs8 : bs ≤ 8) (hb : b ≤ bs) (hq : q < 16) (hn : n < 64) (eR : RK n = nI q) (eW : W n = if r = 3 then 1 else fa * x + fo)
    (h : mr_MC p r RK W spc spe b n bk bv sk sv ps) (h1 : 2 * spc + b ≤ n) (h2 : spe + b ≤ n)
    (C : ∀ spc' spe' b' bk' bv' sk' sv' ps', b' ≤ bs → spc ≤ spc' → spe ≤ spe' → mr_XT spc spe sk sv ps sk' sv' ps' → mr_MC p r RK W spc' spe' b' (n + 1) bk' bv' sk' sv' ps' → 2 * spc' + b' ≤ n + 1 → spe' + b' ≤ n + 1 →
      post (nI p, nI bs, md, fa, fo, lw, hg, nI r, nI b', mp, nI spc', nI spe', oe, rc, rk, rv, mf, rf, bk', bv', sk', sv', ps', hd, lm, os, ok, ov)) :
    wX_mapRecord_57 post x (nI q) (nI p) (nI bs) md fa fo lw hg (nI r) (nI b) mp (nI spc) (nI spe) oe rc rk rv mf rf bk bv sk sv ps hd lm os ok ov := by
  refine pk_eq b bs (fun e => ?_) (fun e => ?_)
  · obtain ⟨⟨P, hP⟩, hR, hB, hE⟩ := id h
    refine mr_spill hp hp4 hr (by omega) (by omega) (by omega) (by omega) hB hP hR ?_
    intro P' spe' bk' bv' sk' sv' ps' g
    have h' := mr_MC_sp (bk' := bk') (bv' := bv') h g
    refine mr_r72 (b := 0) hr (by omega) hq ?_
    rw [← eW]
    obtain ⟨g1, g2, g3, g4, g5, g6, g7⟩ := g
    exact C (spc + 1) spe' 1 _ _ sk' sv' ps' (by omega) (by omega) g3 ⟨g5, g6⟩ (mr_MC_put h' hq eR) (by omega) (by omega)
  · refine mr_r72 (b := b) hr (by omega) hq ?_
    rw [← eW]
    exact C spc spe (b + 1) _ _ sk sv ps (by omega) (Nat.le_refl _) (Nat.le_refl _) mr_XT_rf (mr_MC_put h hq eR) (by omega) (by omega)
theorem mr_rec {post : SX → Prop} {b c spc spe n : Nat} (hp : 1 ≤ p) (hp4 : p ≤ 4) (hr : r ≤ 4) (hbs : 2 ≤ bs) (hbs8 : bs ≤ 8) (hm1 : 1 ≤ m) (hm16 : m ≤ 16) (hb : b ≤ bs) (hn : n < 64) (hc : nI (n % 16) < rc (n / 16))
    (h : mr_MC p r (mr_RK (nI m) lw hg rc rk rv) (mr_W r fa fo rv) spc spe b n bk bv sk sv ps) (h1 : 2 * spc + b ≤ n) (h2 : spe + b ≤ n) (h3 : c = mr_mc (mr_C rc rv lw hg) n)
    (C : ∀ spc' spe' b' bk' bv' sk' sv' ps', b' ≤ bs → spc ≤ spc' → spe ≤ spe' → mr_XT spc spe sk sv ps sk' sv' ps' → mr_MC p r (mr_RK (nI m) lw hg rc rk rv) (mr_W r fa fo rv) spc' spe' b' (n + 1) bk' bv' sk' sv' ps' → 2 * spc' + b' ≤ n + 1 → spe' + b' ≤ n + 1 →
      post (nI p, nI bs, nI m, fa, fo, lw, hg, nI r, nI b', nI (mr_mc (mr_C rc rv lw hg) (n + 1)), nI spc', nI spe', oe, rc, rk, rv, mf, rf, bk', bv', sk', sv', ps', hd, lm, os, ok, ov)) :
    wpX_mapRecord post (nI p, nI bs, nI m, fa, fo, lw, hg, nI r, nI b, nI c, nI spc, nI spe, oe, rc, rk, rv, mf, rf, bk, bv, sk, sv, ps, hd, lm, os, ok, ov) (nI n) := by
  have hv : vp_in (nI n) 64 := vp_in_nI hn (by decide)
  have hcl : (nI n).toNatClampNeg = n := nI_clamp (by omega)
  have skip : mr_C rc rv lw hg n = false → post (nI p, nI bs, nI m, fa, fo, lw, hg, nI r, nI b, nI c, nI spc, nI spe, oe, rc, rk, rv, mf, rf, bk, bv, sk, sv, ps, hd, lm, os, ok, ov) := by
    intro z
    have := C spc spe b bk bv sk sv ps hb (Nat.le_refl _) (Nat.le_refl _) mr_XT_rf (mr_MC_g h (Nat.le_succ n) (fun j a1 a2 => by rw [show j = n by omega]; exact mr_RK_f z)) (by omega) (by omega)
    rw [mr_mc_f z, ← h3] at this
    exact this
  refine And.intro hv (nm_r (e' := rv n) (by rw [hcl]) (br_c (fun z => skip (mr_C_2 z)) (fun z1 => br_c (fun z2 => ?_) (fun z2 => skip (mr_C_3 (Int32.not_le.mp z2))))))
  have ct : mr_C rc rv lw hg n = true := mr_C_t hc z1 (Int32.not_lt.mpr z2)
  obtain ⟨q, hq, eq⟩ := mr_kf_n hm1 hm16 (rk n)
  have eR : mr_RK (nI m) lw hg rc rk rv n = nI q := (mr_RK_t ct).trans eq
  have go : wX_mapRecord_57 post (rv n) (nI q) (nI p) (nI bs) (nI m) fa fo lw hg (nI r) (nI b) (nI (c + 1)) (nI spc) (nI spe) oe rc rk rv mf rf bk bv sk sv ps hd lm os ok ov := by
    refine mr_r57 (RK := (mr_RK (nI m) lw hg rc rk rv)) (W := (mr_W r fa fo rv)) hp hp4 hr hbs hbs8 hb hq hn eR rfl h h1 h2 ?_
    intro spc' spe' b' bk' bv' sk' sv' ps' g1 g2 g3 g4 g5 g6 g7
    have := C spc' spe' b' bk' bv' sk' sv' ps' g1 g2 g3 g4 g5 g6 g7
    rw [mr_mc_t ct, ← h3] at this
    exact this
  refine nm_r (nI_1 c) (And.intro hv (And.intro (nI_ne0 (by omega) (by omega)) (nm_r (e' := rk n - rk n / nI m * nI m) (by rw [hcl]) ?_)))
  unfold mr_kf at eq
  refine br_c (fun z => ?_) (fun z => ?_)
  · rw [if_pos z] at eq
    rw [eq]
    exact go
  · rw [if_neg z] at eq
    exact nm_r eq go
end
end
section
/-! mapSplit: the tries of one split -/
section
variable {pc bz md fa fo lw hg rd bu mp sc se oe : Int32} {rc rk rv mf rf bk bv sk sv ps hd lm os ok ov : Nat → Int32} {p r bs m : Nat}
theorem mr_e16 (s i : Nat) : (16 : Int32) * nI s + nI i = nI (16 * s + i) := by rw [show (16 : Int32) = nI 16 from rfl, pk_mul, nI_add]
theorem mr_m77 {post : SX → Prop} {J : Int32 → Int32 → Int32 → Int32 → Int32 → Int32 → Int32 → Int32 → Int32 → Int32 → Int32 → Int32 → Int32 → Int32 → (Nat → Int32) → (Nat → Int32) → (Nat → Int32) → (Nat → Int32) → (Nat → Int32) → (Nat → Int32) → (Nat → Int32) → (Nat → Int32) → (Nat → Int32) → (Nat → Int32) → (Nat → Int32) → (Nat → Int32) → (Nat → Int32) → (Nat → Int32) → (Nat → Int32) → Prop} {s up spc0 spe0 : Nat} {sk0 sv0 ps0 : Nat → Int32} {x2 x3 x4 x5 : Int32} (hp : 1 ≤ p) (hp4 : p ≤ 4) (hr : r ≤ 4) (hbs : 2 ≤ bs) (hbs8 : bs ≤ 8) (hm1 : 1 ≤ m) (hm16 : m ≤ 16) (hs : s < 4) (hup : up ≤ 16) (hct : ∀ i, i < up → nI i < rc s)
    (C : ∀ spc spe bk' bv' sk' sv' ps', mr_XT spc0 spe0 sk0 sv0 ps0 sk' sv' ps' → mr_MC p r (mr_RK (nI m) lw hg rc rk rv) (mr_W r fa fo rv) spc spe 0 (16 * s + up) bk' bv' sk' sv' ps' → 2 * spc ≤ 16 * s + 16 → spe ≤ 16 * s + 16 →
      J (x5 + (-1)) (nI p) (nI bs) (nI m) fa fo lw hg (nI r) 0 (nI (mr_mc (mr_C rc rv lw hg) (16 * s + up))) (nI spc) (nI spe) oe rc rk rv mf rf bk' bv' sk' sv' ps' hd lm os ok ov) :
    ∀ (d i n b c spc spe : Nat) (bk bv sk sv ps : Nat → Int32), i + d = up → d < n → b ≤ bs → spc0 ≤ spc → spe0 ≤ spe → mr_XT spc0 spe0 sk0 sv0 ps0 sk sv ps → mr_MC p r (mr_RK (nI m) lw hg rc rk rv) (mr_W r fa fo rv) spc spe b (16 * s + i) bk bv sk sv ps → 2 * spc + b ≤ 16 * s + i → spe + b ≤ 16 * s + i → c = mr_mc (mr_C rc rv lw hg) (16 * s + i) →
      wX_mapSplit_77 post J (nI s) x2 x3 x4 x5 (nI up) n (nI i) (nI p) (nI bs) (nI m) fa fo lw hg (nI r) (nI b) (nI c) (nI spc) (nI spe) oe rc rk rv mf rf bk bv sk sv ps hd lm os ok ov := by
  intro d
  induction d with
  | zero =>
    intro i n b c spc spe bk bv sk sv ps hi hn hb g1 g2 x h h1 h2 h3
    obtain ⟨n, rfl⟩ : ∃ k, n = k + 1 := ⟨n - 1, by omega⟩
    have e : i = up := by omega
    subst e
    subst h3
    refine br_t (nI_le (Nat.le_refl _) (by omega)) (pk_le b 0 (fun z => ?_) (fun z => ?_))
    · have e0 : b = 0 := by omega
      subst e0
      exact nm_e (C spc spe bk bv sk sv ps x h (by omega) (by omega))
    · obtain ⟨⟨P, hP⟩, hR, hB, hE⟩ := id h
      refine mr_spill hp hp4 hr (by omega) (by omega) (by omega) (by omega) hB hP hR ?_
      intro P' spe' bk' bv' sk' sv' ps' g
      have h' := mr_MC_sp (bk' := bk') (bv' := bv') h g
      obtain ⟨k1, k2, k3, k4, k5, k6, k7⟩ := g
      exact nm_e (C (spc + 1) spe' bk' bv' sk' sv' ps' (mr_XT_tr x ⟨k5, k6⟩ g1 g2) h' (by omega) (by omega))
  | succ d ih =>
    intro i n b c spc spe bk bv sk sv ps hi hn hb g1 g2 x h h1 h2 h3
    obtain ⟨n, rfl⟩ : ∃ k, n = k + 1 := ⟨n - 1, by omega⟩
    refine br_f (nI_ge (by omega) (by omega)) ?_
    rw [mr_e16 s i]
    refine mr_rec hp hp4 hr hbs hbs8 hm1 hm16 hb (by omega) ?_ h h1 h2 h3 ?_
    · rw [show (16 * s + i) % 16 = i by omega, show (16 * s + i) / 16 = s by omega]
      exact hct i (by omega)
    · intro spc' spe' b' bk' bv' sk' sv' ps' k1 k2 k3 k4 k5 k6 k7
      exact nm_r (nI_1 i) (ih (i + 1) n b' _ spc' spe' bk' bv' sk' sv' ps' (by omega) (by omega) k1 (by omega) (by omega) (mr_XT_tr x k4 g1 g2) k5 k6 k7 rfl)
theorem mr_m24 {post : SX → Prop} {s ct spc0 spe0 : Nat} {bk0 bv0 sk0 sv0 ps0 : Nat → Int32} (hp : 1 ≤ p) (hp4 : p ≤ 4) (hr : r ≤ 4) (hbs : 2 ≤ bs) (hbs8 : bs ≤ 8) (hm1 : 1 ≤ m) (hm16 : m ≤ 16) (hs : s < 4) (hct : ct ≤ 16) (hrc : rc s = nI ct)
    (hB : mr_MC p r (mr_RK (nI m) lw hg rc rk rv) (mr_W r fa fo rv) spc0 spe0 0 (16 * s) bk0 bv0 sk0 sv0 ps0) (hb1 : 2 * spc0 ≤ 16 * s) (hb2 : spe0 ≤ 16 * s)
    (C : ∀ spc spe bk' bv' sk' sv' ps', mr_MC p r (mr_RK (nI m) lw hg rc rk rv) (mr_W r fa fo rv) spc spe 0 (16 * s + 16) bk' bv' sk' sv' ps' → 2 * spc ≤ 16 * s + 16 → spe ≤ 16 * s + 16 →
      post (nI p, nI bs, nI m, fa, fo, lw, hg, nI r, 0, nI (mr_mc (mr_C rc rv lw hg) (16 * s + 16)), nI spc, nI spe, oe, rc, rk, rv, mf, rf, bk', bv', sk', sv', ps', hd, lm, os, ok, ov)) :
    ∀ (a n : Nat) (bu mp sc se : Int32) (bk bv sk sv ps : Nat → Int32), a < 100 → a + 1 < n → mr_XT spc0 spe0 sk0 sv0 ps0 sk sv ps →
      wX_mapSplit_24 post (nI s) (nI spc0) (nI spe0) (nI (mr_mc (mr_C rc rv lw hg) (16 * s))) n (nI a) (nI p) (nI bs) (nI m) fa fo lw hg (nI r) bu mp sc se oe rc rk rv mf rf bk bv sk sv ps hd lm os ok ov := by
  have hv : vp_in (nI s) 4 := vp_in_nI hs (by decide)
  have hcl : (nI s).toNatClampNeg = s := nI_clamp (by omega)
  intro a
  induction a with
  | zero =>
    intro n bu mp sc se bk bv sk sv ps ha hn x
    obtain ⟨n, rfl⟩ : ∃ k, n = k + 2 := ⟨n - 2, by omega⟩
    refine br_f (by decide) (br_t (by decide) (And.intro hv (nm_r (e' := nI ct) (by rw [hcl]; exact hrc) (Exists.intro (ct + 1) ?_))))
    refine mr_m77 (spc0 := spc0) (spe0 := spe0) (sk0 := sk0) (sv0 := sv0) (ps0 := ps0) hp hp4 hr hbs hbs8 hm1 hm16 hs hct ?_ ?_ ct 0 (ct + 1) 0 _ spc0 spe0 bk bv sk sv ps (by omega) (by omega) (by omega) (Nat.le_refl _) (Nat.le_refl _) x (mr_MC_xt hB x) (by omega) (by omega) rfl
    · intro i hi
      rw [hrc]
      exact nI_lt hi (by omega)
    · intro spc spe bk' bv' sk' sv' ps' k1 k2 k3 k4
      have gap : ∀ j, 16 * s + ct ≤ j → j < 16 * s + 16 → mr_C rc rv lw hg j = false := by
        intro j j1 j2
        refine mr_C_1 ?_
        rw [show j / 16 = s by omega, hrc]
        exact nI_nlt (by omega) (by omega)
      have := C spc spe bk' bv' sk' sv' ps' (mr_MC_g k2 (by omega) (fun j j1 j2 => mr_RK_f (gap j j1 j2))) k3 k4
      rw [mr_mc_g (m := 16 * s + ct) (by omega) gap] at this
      exact br_t (by decide) this
  | succ a ih =>
    intro n bu mp sc se bk bv sk sv ps ha hn x
    obtain ⟨n, rfl⟩ : ∃ k, n = k + 1 := ⟨n - 1, by omega⟩
    refine br_f (nI_pos (by omega)) (br_f (nI_nle (by omega) (by omega)) (And.intro hv (And.intro (by decide) (nm_r (e' := nI (ct / 2)) (by rw [hcl, hrc]; exact pk_div (d := 2) (by omega) (by omega) (by omega)) (Exists.intro (ct / 2 + 1) ?_)))))
    refine mr_m77 (spc0 := spc0) (spe0 := spe0) (sk0 := sk0) (sv0 := sv0) (ps0 := ps0) hp hp4 hr hbs hbs8 hm1 hm16 hs (by omega) ?_ ?_ (ct / 2) 0 (ct / 2 + 1) 0 _ spc0 spe0 bk bv sk sv ps (by omega) (by omega) (by omega) (Nat.le_refl _) (Nat.le_refl _) x (mr_MC_xt hB x) (by omega) (by omega) rfl
    · intro i hi
      rw [hrc]
      exact nI_lt (by omega) (by omega)
    · intro spc spe bk' bv' sk' sv' ps' k1 k2 k3 k4
      rw [pk_m1]
      exact ih n _ _ _ _ bk' bv' sk' sv' ps' (by omega) (by omega) k1
theorem mr_msplit {post : SX → Prop} {s ct f spc spe : Nat} (hp : 1 ≤ p) (hp4 : p ≤ 4) (hr : r ≤ 4) (hbs : 2 ≤ bs) (hbs8 : bs ≤ 8) (hm1 : 1 ≤ m) (hm16 : m ≤ 16) (hs : s < 4) (hct : ct ≤ 16) (hrc : rc s = nI ct) (hf : f ≤ 3) (hmf : mf s = nI f)
    (hB : mr_MC p r (mr_RK (nI m) lw hg rc rk rv) (mr_W r fa fo rv) spc spe 0 (16 * s) bk bv sk sv ps) (hb1 : 2 * spc ≤ 16 * s) (hb2 : spe ≤ 16 * s)
    (C : ∀ spc' spe' bk' bv' sk' sv' ps', mr_MC p r (mr_RK (nI m) lw hg rc rk rv) (mr_W r fa fo rv) spc' spe' 0 (16 * s + 16) bk' bv' sk' sv' ps' → 2 * spc' ≤ 16 * s + 16 → spe' ≤ 16 * s + 16 →
      post (nI p, nI bs, nI m, fa, fo, lw, hg, nI r, 0, nI (mr_mc (mr_C rc rv lw hg) (16 * s + 16)), nI spc', nI spe', oe, rc, rk, rv, mf, rf, bk', bv', sk', sv', ps', hd, lm, os, ok, ov)) :
    wpX_mapSplit post (nI p, nI bs, nI m, fa, fo, lw, hg, nI r, bu, nI (mr_mc (mr_C rc rv lw hg) (16 * s)), nI spc, nI spe, oe, rc, rk, rv, mf, rf, bk, bv, sk, sv, ps, hd, lm, os, ok, ov) (nI s) := by
  have hv : vp_in (nI s) 4 := vp_in_nI hs (by decide)
  have hcl : (nI s).toNatClampNeg = s := nI_clamp (by omega)
  refine And.intro hv (nm_r (e' := nI f) (by rw [hcl]; exact hmf) (Exists.intro (f + 2) ?_))
  exact mr_m24 hp hp4 hr hbs hbs8 hm1 hm16 hs hct hrc hB hb1 hb2 C f (f + 2) _ _ _ _ bk bv sk sv ps (by omega) (by omega) mr_XT_rf
end
end
section
/-! counting keys by part: where a key's result lies in the output -/
def mr_cn (h : Nat → Bool) (p q : Nat) : Nat → Nat
  | 0 => 0
  | n + 1 => mr_cn h p q n + (if h n = true ∧ n % p = q then 1 else 0)
theorem mr_cn_t {h : Nat → Bool} {p q n : Nat} (a : h n = true) (b : n % p = q) : mr_cn h p q (n + 1) = mr_cn h p q n + 1 := by
  show mr_cn h p q n + (if h n = true ∧ n % p = q then 1 else 0) = _
  rw [if_pos ⟨a, b⟩]
theorem mr_cn_f {h : Nat → Bool} {p q n : Nat} (a : ¬ (h n = true ∧ n % p = q)) : mr_cn h p q (n + 1) = mr_cn h p q n := by
  show mr_cn h p q n + (if h n = true ∧ n % p = q then 1 else 0) = _
  rw [if_neg a]
  rfl
theorem mr_cn_g {h : Nat → Bool} {p q m : Nat} : ∀ {n : Nat}, m ≤ n → (∀ j, m ≤ j → j < n → h j = true → j % p = q → False) → mr_cn h p q n = mr_cn h p q m := by
  intro n
  induction n with
  | zero => intro a _; rw [show m = 0 by omega]
  | succ n ih =>
    intro a g
    by_cases e : m = n + 1
    · rw [e]
    · rw [mr_cn_f (fun z => g n (by omega) (by omega) z.1 z.2), ih (by omega) (fun j h1 h2 => g j h1 (by omega))]
theorem mr_cn_s {h : Nat → Bool} {p q n : Nat} : mr_cn h p q n ≤ mr_cn h p q (n + 1) ∧ mr_cn h p q (n + 1) ≤ mr_cn h p q n + 1 := by
  by_cases c : h n = true ∧ n % p = q
  · rw [mr_cn_t c.1 c.2]; omega
  · rw [mr_cn_f c]; omega
theorem mr_cn_m {h : Nat → Bool} {p q m : Nat} : ∀ {n : Nat}, m ≤ n → mr_cn h p q m ≤ mr_cn h p q n := by
  intro n
  induction n with
  | zero => intro a; rw [show m = 0 by omega]; exact Nat.le_refl _
  | succ n ih =>
    intro a
    by_cases e : m = n + 1
    · rw [e]; exact Nat.le_refl _
    · exact Nat.le_trans (ih (by omega)) mr_cn_s.1
theorem mr_cn_le {h : Nat → Bool} {p q : Nat} : ∀ n : Nat, mr_cn h p q n ≤ n := by
  intro n
  induction n with
  | zero => exact Nat.le_refl _
  | succ n ih => have := (mr_cn_s (h := h) (p := p) (q := q) (n := n)).2; omega
theorem mr_cn_x {h : Nat → Bool} {p q k n : Nat} (a : h k = true) (b : k % p = q) (c : k < n) : mr_cn h p q k < mr_cn h p q n := by
  have h1 := mr_cn_t a b
  have h2 := mr_cn_m (h := h) (p := p) (q := q) (show k + 1 ≤ n by omega)
  omega
theorem mr_cn_ex {h : Nat → Bool} {p q i : Nat} : ∀ {n : Nat}, i < mr_cn h p q n → ∃ k, k < n ∧ h k = true ∧ k % p = q ∧ mr_cn h p q k = i := by
  intro n
  induction n with
  | zero => intro a; exact absurd a (Nat.not_lt_zero i)
  | succ n ih =>
    intro a
    by_cases c : h n = true ∧ n % p = q
    · rw [mr_cn_t c.1 c.2] at a
      by_cases e : mr_cn h p q n = i
      · exact ⟨n, by omega, c.1, c.2, e⟩
      · obtain ⟨k, h1, h2⟩ := ih (by omega)
        exact ⟨k, by omega, h2⟩
    · rw [mr_cn_f c] at a
      obtain ⟨k, h1, h2⟩ := ih a
      exact ⟨k, by omega, h2⟩
theorem mr_cn_0 {h : Nat → Bool} {p q n : Nat} (hp : 1 ≤ p) (hq : p ≤ q) : mr_cn h p q n = 0 :=
  mr_cn_g (m := 0) (Nat.zero_le _) (fun j _ _ _ e => by have := Nat.mod_lt j (show p > 0 by omega); omega)
theorem mr_cn_F {p q : Nat} (n : Nat) : mr_cn (fun _ => false) p q n = 0 := mr_cn_g (m := 0) (Nat.zero_le _) (fun j _ _ z _ => by cases z)
def mr_tc (h : Nat → Bool) : Nat → Nat
  | 0 => 0
  | n + 1 => mr_tc h n + (if h n = true then 1 else 0)
theorem mr_tc_t {h : Nat → Bool} {n : Nat} (a : h n = true) : mr_tc h (n + 1) = mr_tc h n + 1 := by
  show mr_tc h n + (if h n = true then 1 else 0) = _
  rw [if_pos a]
theorem mr_tc_f {h : Nat → Bool} {n : Nat} (a : ¬ h n = true) : mr_tc h (n + 1) = mr_tc h n := by
  show mr_tc h n + (if h n = true then 1 else 0) = _
  rw [if_neg a]
  rfl
theorem mr_tc_le {h : Nat → Bool} : ∀ n : Nat, mr_tc h n ≤ n := by
  intro n
  induction n with
  | zero => exact Nat.le_refl _
  | succ n ih =>
    by_cases c : h n = true
    · rw [mr_tc_t c]; omega
    · rw [mr_tc_f c]; omega
theorem mr_tc_c {h : Nat → Bool} {p : Nat} (hp : 1 ≤ p) (hp4 : p ≤ 4) : ∀ n : Nat, mr_cn h p 0 n + mr_cn h p 1 n + mr_cn h p 2 n + mr_cn h p 3 n = mr_tc h n := by
  intro n
  induction n with
  | zero => rfl
  | succ n ih =>
    by_cases c : h n = true
    · have hm := Nat.mod_lt n (show p > 0 by omega)
      have d : n % p = 0 ∨ n % p = 1 ∨ n % p = 2 ∨ n % p = 3 := by omega
      rw [mr_tc_t c]
      rcases d with d | d | d | d
      · rw [mr_cn_t c d, mr_cn_f (q := 1) (by omega), mr_cn_f (q := 2) (by omega), mr_cn_f (q := 3) (by omega)]; omega
      · rw [mr_cn_t c d, mr_cn_f (q := 0) (by omega), mr_cn_f (q := 2) (by omega), mr_cn_f (q := 3) (by omega)]; omega
      · rw [mr_cn_t c d, mr_cn_f (q := 0) (by omega), mr_cn_f (q := 1) (by omega), mr_cn_f (q := 3) (by omega)]; omega
      · rw [mr_cn_t c d, mr_cn_f (q := 0) (by omega), mr_cn_f (q := 1) (by omega), mr_cn_f (q := 2) (by omega)]; omega
    · have z : ∀ q, ¬ (h n = true ∧ n % p = q) := fun q z => c z.1
      rw [mr_cn_f (z 0), mr_cn_f (z 1), mr_cn_f (z 2), mr_cn_f (z 3), mr_tc_f c]
      exact ih
def mr_OS (h : Nat → Bool) (p : Nat) : Nat → Nat
  | 0 => 0
  | q + 1 => mr_OS h p q + mr_cn h p q 16
theorem mr_OS_s {h : Nat → Bool} {p q : Nat} : mr_OS h p (q + 1) = mr_OS h p q + mr_cn h p q 16 := rfl
theorem mr_OS_m {h : Nat → Bool} {p m : Nat} : ∀ {n : Nat}, m ≤ n → mr_OS h p m ≤ mr_OS h p n := by
  intro n
  induction n with
  | zero => intro a; rw [show m = 0 by omega]; exact Nat.le_refl _
  | succ n ih =>
    intro a
    by_cases e : m = n + 1
    · rw [e]; exact Nat.le_refl _
    · exact Nat.le_trans (ih (by omega)) (Nat.le_add_right _ _)
theorem mr_OS_4 {h : Nat → Bool} {p : Nat} (hp : 1 ≤ p) (hp4 : p ≤ 4) : mr_OS h p 4 = mr_tc h 16 := by
  rw [← mr_tc_c hp hp4 16]
  show 0 + mr_cn h p 0 16 + mr_cn h p 1 16 + mr_cn h p 2 16 + mr_cn h p 3 16 = _
  omega
theorem mr_OS_16 {h : Nat → Bool} {p q : Nat} (hp : 1 ≤ p) (hp4 : p ≤ 4) (hq : q ≤ 4) : mr_OS h p q ≤ 16 := by
  have h1 := mr_OS_m (h := h) (p := p) hq
  have h2 := mr_OS_4 (h := h) hp hp4
  have h3 := mr_tc_le (h := h) 16
  omega
theorem mr_OS_F {p : Nat} : ∀ q : Nat, mr_OS (fun _ => false) p q = 0 := by
  intro q
  induction q with
  | zero => rfl
  | succ q ih => rw [mr_OS_s, ih, mr_cn_F]
end
section
/-! the merge: openSpills, leastHead, reduceGroup -/
def mr_HS (P : Nat → Nat → Nat) (q k : Nat) (sk hd lm : Nat → Int32) (s : Nat) : Prop :=
  hd s = nI (mr_K hd s) ∧ lm s = nI (P s (q + 1)) ∧ P s q ≤ mr_K hd s ∧ mr_K hd s ≤ P s (q + 1) ∧ (∀ j, P s q ≤ j → j < mr_K hd s → mr_K sk j < k) ∧ ∀ j, mr_K hd s ≤ j → j < P s (q + 1) → k ≤ mr_K sk j
theorem mr_HS_c {P : Nat → Nat → Nat} {q k : Nat} {sk hd hd' lm : Nat → Int32} {s : Nat} (e : hd' s = hd s) (h : mr_HS P q k sk hd lm s) : mr_HS P q k sk hd' lm s := by
  unfold mr_HS
  rw [mr_K_c e, e]
  exact h
def mr_LR (P : Nat → Nat → Nat) (q : Nat) (sk hd : Nat → Int32) (n : Nat) (r : Int32) : Prop :=
  (r = -1 ∧ ∀ s, s < n → mr_K hd s = P s (q + 1)) ∨ ∃ m, m < 16 ∧ r = nI m ∧ (∃ s, s < n ∧ mr_K hd s < P s (q + 1) ∧ mr_K sk (mr_K hd s) = m) ∧ ∀ s, s < n → mr_K hd s < P s (q + 1) → m ≤ mr_K sk (mr_K hd s)
theorem mr_LR_0 {P : Nat → Nat → Nat} {q : Nat} {sk hd : Nat → Int32} : mr_LR P q sk hd 0 (-1) := Or.inl ⟨rfl, fun s hs => absurd hs (Nat.not_lt_zero s)⟩
theorem mr_LR_sk {P : Nat → Nat → Nat} {q n : Nat} {sk hd : Nat → Int32} {r : Int32} (h : mr_LR P q sk hd n r) (e : mr_K hd n = P n (q + 1)) : mr_LR P q sk hd (n + 1) r := by
  rcases h with ⟨h1, h2⟩ | ⟨m, h1, h2, ⟨s, h3, h4⟩, h5⟩
  · exact Or.inl ⟨h1, lt_s h2 e⟩
  · refine Or.inr ⟨m, h1, h2, ⟨s, by omega, h4⟩, lt_s h5 (fun z => by omega)⟩
theorem mr_LR_f {P : Nat → Nat → Nat} {q n : Nat} {sk hd : Nat → Int32} (h : ∀ s, s < n → mr_K hd s = P s (q + 1)) (e : mr_K hd n < P n (q + 1)) (k : mr_K sk (mr_K hd n) < 16) : mr_LR P q sk hd (n + 1) (nI (mr_K sk (mr_K hd n))) :=
  Or.inr ⟨_, k, rfl, ⟨n, by omega, e, rfl⟩, lt_s (fun s hs z => by have := h s hs; omega) (fun _ => Nat.le_refl _)⟩
theorem mr_LR_k {P : Nat → Nat → Nat} {q n m : Nat} {sk hd : Nat → Int32} (hm : m < 16) (h3 : ∃ s, s < n ∧ mr_K hd s < P s (q + 1) ∧ mr_K sk (mr_K hd s) = m) (h5 : ∀ s, s < n → mr_K hd s < P s (q + 1) → m ≤ mr_K sk (mr_K hd s)) (e : m ≤ mr_K sk (mr_K hd n)) : mr_LR P q sk hd (n + 1) (nI m) := by
  obtain ⟨s, h3, h4⟩ := h3
  exact Or.inr ⟨m, hm, rfl, ⟨s, by omega, h4⟩, lt_s h5 (fun _ => e)⟩
theorem mr_LR_r {P : Nat → Nat → Nat} {q n m : Nat} {sk hd : Nat → Int32} (h5 : ∀ s, s < n → mr_K hd s < P s (q + 1) → m ≤ mr_K sk (mr_K hd s)) (c : mr_K hd n < P n (q + 1)) (k : mr_K sk (mr_K hd n) < 16) (e : mr_K sk (mr_K hd n) < m) : mr_LR P q sk hd (n + 1) (nI (mr_K sk (mr_K hd n))) :=
  Or.inr ⟨_, k, rfl, ⟨n, by omega, c, rfl⟩, lt_s (fun s hs z => by have := h5 s hs z; omega) (fun _ => Nat.le_refl _)⟩
theorem mr_SF_pt {P : Nat → Nat → Nat} {p spc spe : Nat} {sk ps : Nat → Int32} (h : mr_SF P p spc spe sk ps) {s j : Nat} (hs : s < spc) (h0 : P s 0 ≤ j) (h4 : j < P s 4) : ∃ q, q < 4 ∧ P s q ≤ j ∧ j < P s (q + 1) ∧ mr_K sk j % p = q := by
  have hx := (h.2.2 s hs).2.2
  by_cases c1 : j < P s 1
  · exact ⟨0, by omega, h0, c1, ((hx 0 (by omega)).2 j h0 c1).1⟩
  · by_cases c2 : j < P s 2
    · exact ⟨1, by omega, by omega, c2, ((hx 1 (by omega)).2 j (by omega) c2).1⟩
    · by_cases c3 : j < P s 3
      · exact ⟨2, by omega, by omega, c3, ((hx 2 (by omega)).2 j (by omega) c3).1⟩
      · exact ⟨3, by omega, by omega, h4, ((hx 3 (by omega)).2 j (by omega) h4).1⟩
theorem mr_SF_fd {P : Nat → Nat → Nat} {p spc spe : Nat} {sk ps : Nat → Int32} (h : mr_SF P p spc spe sk ps) {j : Nat} : ∀ n, n ≤ spc → j < P n 0 → ∃ s, s < n ∧ ∃ q, q < 4 ∧ P s q ≤ j ∧ j < P s (q + 1) ∧ mr_K sk j % p = q := by
  intro n
  induction n with
  | zero => intro _ hj; rw [h.1] at hj; omega
  | succ n ih =>
    intro hn hj
    by_cases c : j < P n 0
    · obtain ⟨s, hs, g⟩ := ih (by omega) c
      exact ⟨s, by omega, g⟩
    · rw [← (h.2.2 n (by omega)).1] at hj
      obtain ⟨q, g⟩ := mr_SF_pt h (s := n) (by omega) (by omega) hj
      exact ⟨n, by omega, q, g⟩
theorem mr_HI_up {P : Nat → Nat → Nat} {p q k m spc spe : Nat} {sk ps hd lm : Nat → Int32} (hSF : mr_SF P p spc spe sk ps) (hR : mr_R sk spe) (hq : q < 4) (hI : ∀ s, s < spc → mr_HS P q k sk hd lm s)
    (h3 : ∃ s, s < spc ∧ mr_K hd s < P s (q + 1) ∧ mr_K sk (mr_K hd s) = m) (h5 : ∀ s, s < spc → mr_K hd s < P s (q + 1) → m ≤ mr_K sk (mr_K hd s)) :
    k ≤ m ∧ m % p = q ∧ (∃ j, j < spe ∧ sk j = nI m) ∧ ∀ s, s < spc → mr_HS P q m sk hd lm s := by
  obtain ⟨s, hs, hlt, e⟩ := h3
  obtain ⟨g1, g2, g3, g4, g5, g6⟩ := hI s hs
  have hk : k ≤ m := by
    have := g6 _ (Nat.le_refl _) hlt
    omega
  have hb := mr_SF_b hSF (s := s) (q := q + 1) hs (by omega)
  refine ⟨hk, ?_, ⟨mr_K hd s, by omega, by rw [← e]; exact (hR _ (by omega)).2⟩, ?_⟩
  · rw [← e]
    exact ((((hSF.2.2 s hs).2.2 q hq).2) _ g3 hlt).1
  · intro s' hs'
    obtain ⟨k1, k2, k3, k4, k5, k6⟩ := hI s' hs'
    refine ⟨k1, k2, k3, k4, fun j a b => Nat.lt_of_lt_of_le (k5 j a b) hk, ?_⟩
    intro j a b
    have n1 := h5 s' hs' (by omega)
    have n2 := ((((hSF.2.2 s' hs').2.2 q hq).2) j (by omega) b).2 (mr_K hd s') k3 a
    omega
theorem mr_HI_no {P : Nat → Nat → Nat} {p q k k' m spc spe : Nat} {sk ps hd lm : Nat → Int32} (hSF : mr_SF P p spc spe sk ps) (hI : ∀ s, s < spc → mr_HS P q k sk hd lm s) (hM : ∀ s, s < spc → mr_HS P q m sk hd lm s)
    (h1 : k ≤ k') (h2 : k' < m) (h16 : k' < 16) (hm : k' % p = q) : ¬ ∃ j, j < spe ∧ sk j = nI k' := by
  intro z
  obtain ⟨j, hj, e⟩ := z
  have hK : mr_K sk j = k' := mr_K_of e (by omega)
  obtain ⟨s, hs, q', g1, g2, g3, g4⟩ := mr_SF_fd hSF (j := j) spc (Nat.le_refl _) (by rw [hSF.2.1]; exact hj)
  rw [hK, hm] at g4
  subst g4
  by_cases c : j < mr_K hd s
  · have := (hI s hs).2.2.2.2.1 j g2 c
    omega
  · have := (hM s hs).2.2.2.2.2 j (by omega) g3
    omega
theorem mr_HI_end {P : Nat → Nat → Nat} {q k m spc : Nat} {sk hd lm : Nat → Int32} (hI : ∀ s, s < spc → mr_HS P q k sk hd lm s) (he : ∀ s, s < spc → mr_K hd s = P s (q + 1)) (hkm : k ≤ m) : ∀ s, s < spc → mr_HS P q m sk hd lm s := by
  intro s hs
  obtain ⟨k1, k2, k3, k4, k5, k6⟩ := hI s hs
  have := he s hs
  exact ⟨k1, k2, k3, k4, fun j a b => Nat.lt_of_lt_of_le (k5 j a b) hkm, fun j a b => by omega⟩
section
variable {pc bz md fa fo lw hg rd bu mp sc se oe : Int32} {rc rk rv mf rf bk bv sk sv ps hd lm os ok ov : Nat → Int32} {p r q spc spe : Nat} {P : Nat → Nat → Nat}
theorem mr_op2 {post : SX → Prop} (hq : q < 4) (hsc : spc ≤ 32) (hse : spe ≤ 64) (hSF : mr_SF P p spc spe sk ps)
    (C : ∀ hd' lm', (∀ s, s < spc → hd' s = nI (P s q) ∧ lm' s = nI (P s (q + 1))) → post (pc, bz, md, fa, fo, lw, hg, rd, bu, mp, nI spc, se, oe, rc, rk, rv, mf, rf, bk, bv, sk, sv, ps, hd', lm', os, ok, ov)) :
    ∀ (d s n : Nat) (hd lm : Nat → Int32), s + d = spc → d < n → (∀ s', s' < s → hd s' = nI (P s' q) ∧ lm s' = nI (P s' (q + 1))) → wX_openSpills_2 post (nI q) pc bz md fa fo lw hg rd bu mp (nI spc) se oe n (nI s) rc rk rv mf rf bk bv sk sv ps hd lm os ok ov := by
  intro d
  induction d with
  | zero =>
    intro s n hd lm hs hn h
    obtain ⟨n, rfl⟩ : ∃ k, n = k + 1 := ⟨n - 1, by omega⟩
    have e : s = spc := by omega
    subst e
    exact br_t (nI_le (Nat.le_refl _) (by omega)) (C hd lm h)
  | succ d ih =>
    intro s n hd lm hs hn h
    obtain ⟨n, rfl⟩ : ∃ k, n = k + 1 := ⟨n - 1, by omega⟩
    have e5 : (5 : Int32) * nI s + nI q = nI (5 * s + q) := by rw [show (5 : Int32) = nI 5 from rfl, pk_mul, nI_add]
    have hb1 := mr_SF_b hSF (s := s) (q := q) (by omega) (by omega)
    have hb2 := mr_SF_b hSF (s := s) (q := q + 1) (by omega) (by omega)
    have v1 : vp_in (nI (5 * s + q)) 160 := vp_in_nI (by omega) (by decide)
    have v2 : vp_in (nI (5 * s + q + 1)) 160 := vp_in_nI (by omega) (by decide)
    have v3 : vp_in (nI s) 32 := vp_in_nI (by omega) (by decide)
    have p1 := (hSF.2.2 s (by omega)).2.1 q (by omega)
    have p2 : ps (5 * s + q + 1) = nI (P s (q + 1)) := (hSF.2.2 s (by omega)).2.1 (q + 1) (by omega)
    refine br_f (nI_ge (by omega) (by omega)) ?_
    rw [e5, nI_1 (5 * s + q), nI_clamp (n := 5 * s + q) (by omega), nI_clamp (n := 5 * s + q + 1) (by omega), nI_clamp (n := s) (by omega), p1, p2, mr_nb (by omega), mr_nb (by omega)]
    refine And.intro v1 (And.intro v3 (nm_e (And.intro v2 (And.intro v3 (nm_e (nm_r (nI_1 s) (ih (s + 1) n _ _ (by omega) (by omega) ?_)))))))
    intro s' hs'
    by_cases e : s' = s
    · subst e
      exact ⟨pk_us, pk_us⟩
    · rw [pk_un e, pk_un e]
      exact h s' (by omega)
theorem mr_open {post : SX → Prop} (hq : q < 4) (hsc : spc ≤ 32) (hse : spe ≤ 64) (hSF : mr_SF P p spc spe sk ps)
    (C : ∀ hd' lm', (∀ s, s < spc → mr_HS P q 0 sk hd' lm' s) → post (pc, bz, md, fa, fo, lw, hg, rd, bu, mp, nI spc, se, oe, rc, rk, rv, mf, rf, bk, bv, sk, sv, ps, hd', lm', os, ok, ov)) : wpX_openSpills post (pc, bz, md, fa, fo, lw, hg, rd, bu, mp, nI spc, se, oe, rc, rk, rv, mf, rf, bk, bv, sk, sv, ps, hd, lm, os, ok, ov) (nI q) := by
  refine Exists.intro (spc + 1) (mr_op2 hq hsc hse hSF ?_ spc 0 (spc + 1) hd lm (by omega) (by omega) (fun s hs => absurd hs (Nat.not_lt_zero s)))
  intro hd' lm' h
  refine C hd' lm' ?_
  intro s hs
  have hb1 := mr_SF_b hSF (s := s) (q := q) hs (by omega)
  have hK : mr_K hd' s = P s q := mr_K_of (h s hs).1 (by omega)
  refine ⟨by rw [hK]; exact (h s hs).1, (h s hs).2, by omega, ?_, fun j a b => by omega, fun j a b => Nat.zero_le _⟩
  rw [hK]
  exact ((hSF.2.2 s hs).2.2 q hq).1
theorem mr_lh4 {post : Int32 → Prop} {k : Nat} (hq : q < 4) (hsc : spc ≤ 32) (hse : spe ≤ 64) (hSF : mr_SF P p spc spe sk ps) (hR : mr_R sk spe) (hI : ∀ s, s < spc → mr_HS P q k sk hd lm s) (C : ∀ x, mr_LR P q sk hd spc x → post x) :
    ∀ (d s n : Nat) (x : Int32), s + d = spc → d < n → mr_LR P q sk hd s x → wX_leastHead_4 post pc bz md fa fo lw hg rd bu mp (nI spc) se oe rc rk rv mf rf bk bv sk sv ps hd lm os ok ov n x (nI s) := by
  intro d
  induction d with
  | zero =>
    intro s n x hs hn h
    obtain ⟨n, rfl⟩ : ∃ k, n = k + 1 := ⟨n - 1, by omega⟩
    have e : s = spc := by omega
    subst e
    exact br_t (nI_le (Nat.le_refl _) (by omega)) (C x h)
  | succ d ih =>
    intro s n x hs hn h
    obtain ⟨n, rfl⟩ : ∃ k, n = k + 1 := ⟨n - 1, by omega⟩
    obtain ⟨k1, k2, k3, k4, k5, k6⟩ := hI s (by omega)
    have hb2 := mr_SF_b hSF (s := s) (q := q + 1) (by omega) (by omega)
    have v3 : vp_in (nI s) 32 := vp_in_nI (by omega) (by decide)
    refine br_f (nI_ge (by omega) (by omega)) ?_
    rw [nI_clamp (n := s) (by omega)]
    refine And.intro v3 (And.intro v3 (pk_eq (mr_K hd s) (P s (q + 1)) (fun e => ?_) (fun e => ?_) k1 k2 (by omega) (by omega)))
    · exact nm_r (nI_1 s) (ih (s + 1) n x (by omega) (by omega) (mr_LR_sk h e))
    · have hlt : mr_K hd s < P s (q + 1) := by omega
      have v4 : vp_in (hd s) 64 := by rw [k1]; exact vp_in_nI (by omega) (by decide)
      obtain ⟨r1, r2⟩ := hR (mr_K hd s) (by omega)
      refine And.intro v3 (And.intro v4 (nm_r (e' := nI (mr_K sk (mr_K hd s))) r2 ?_))
      rcases h with ⟨h1, h2⟩ | ⟨m, h1, h2, h3, h5⟩
      · refine br_t (by rw [h1]; decide) (nm_r (nI_1 s) (ih (s + 1) n _ (by omega) (by omega) (mr_LR_f h2 hlt r1)))
      · subst h2
        refine br_f (nI_pos (by omega)) (pk_le m (mr_K sk (mr_K hd s)) (fun e => ?_) (fun e => ?_))
        · exact nm_r (nI_1 s) (ih (s + 1) n _ (by omega) (by omega) (mr_LR_k h1 h3 h5 e))
        · exact nm_r (nI_1 s) (ih (s + 1) n _ (by omega) (by omega) (mr_LR_r h5 hlt r1 e))
theorem mr_least {post : Int32 → Prop} {k : Nat} (hq : q < 4) (hsc : spc ≤ 32) (hse : spe ≤ 64) (hSF : mr_SF P p spc spe sk ps) (hR : mr_R sk spe) (hI : ∀ s, s < spc → mr_HS P q k sk hd lm s) (C : ∀ x, mr_LR P q sk hd spc x → post x) :
    wpX_leastHead post (pc, bz, md, fa, fo, lw, hg, rd, bu, mp, nI spc, se, oe, rc, rk, rv, mf, rf, bk, bv, sk, sv, ps, hd, lm, os, ok, ov) :=
  Exists.intro (spc + 1) (mr_lh4 hq hsc hse hSF hR hI C spc 0 (spc + 1) (-1) (by omega) (by omega) mr_LR_0)
end
end
section
/-! reduceGroup: one key's values, spill by spill -/
def mr_bi (b : Bool) : Int32 := if b = true then 1 else 0
def mr_sx (r : Nat) (sk sv : Nat → Int32) (k x : Nat) : Int32 × Bool := mr_fo r (mr_in r) (mr_vl sk sv (nI k) x)
theorem mr_sx_t {r : Nat} {sk sv : Nat → Int32} {k x : Nat} (h : sk x = nI k) : mr_sx r sk sv k (x + 1) = mr_st r (mr_sx r sk sv k x) (sv x) := by
  unfold mr_sx
  rw [mr_vl_t h, mr_fo_sn]
theorem mr_HS_n {P : Nat → Nat → Nat} {p q k x spc spe : Nat} {sk ps hd hd' lm : Nat → Int32} {s : Nat} (hSF : mr_SF P p spc spe sk ps) (hR : mr_R sk spe) (hq : q < 4) (hk : k < 16) (hs : s < spc) (h : mr_HS P q k sk hd lm s) (hx0 : mr_K hd s ≤ x) (hx : x ≤ P s (q + 1)) (hx64 : x < 128)
    (ha : ∀ j, mr_K hd s ≤ j → j < x → sk j = nI k) (hz : x < P s (q + 1) → sk x ≠ nI k) (e : hd' s = nI x) : mr_HS P q (k + 1) sk hd' lm s := by
  obtain ⟨h1, h2, h3, h4, h5, h6⟩ := h
  have hK : mr_K hd' s = x := mr_K_of e (by omega)
  have hb := mr_SF_b hSF (s := s) (q := q + 1) hs (by omega)
  refine ⟨by rw [hK]; exact e, h2, by omega, by omega, ?_, ?_⟩
  · intro j a b
    rw [hK] at b
    by_cases c : j < mr_K hd s
    · have := h5 j a c
      omega
    · have := mr_K_of (ha j (by omega) b) (by omega)
      omega
  · intro j a b
    rw [hK] at a
    have hlt : x < P s (q + 1) := by omega
    have n1 := h6 x hx0 hlt
    have n2 : mr_K sk x ≠ k := fun z => hz hlt (by rw [← z]; exact (hR x (by omega)).2)
    have n3 := ((((hSF.2.2 s hs).2.2 q hq).2) j (by omega) b).2 x (by omega) a
    omega
theorem mr_gp1 {P : Nat → Nat → Nat} {p q k spc spe : Nat} {sk sv ps hd lm : Nat → Int32} {s : Nat} (hSF : mr_SF P p spc spe sk ps) (hq : q < 4) (hk : k < 16) (hkq : k % p = q) (hs : s < spc) (h : mr_HS P q k sk hd lm s) :
    mr_vl sk sv (nI k) (mr_K hd s) = mr_vl sk sv (nI k) (P s 0) := by
  obtain ⟨h1, h2, h3, h4, h5, h6⟩ := h
  have m1 := mr_SF_m hSF (s := s) (q := q) hs (by omega)
  have m2 := mr_SF_m hSF (s := s) (q := q + 1) hs (by omega)
  refine mr_vl_g (by omega) ?_
  intro j a b e
  have hK : mr_K sk j = k := mr_K_of e (by omega)
  obtain ⟨q', g1, g2, g3, g4⟩ := mr_SF_pt hSF hs a (by omega)
  rw [hK, hkq] at g4
  subst g4
  have := h5 j g2 b
  omega
theorem mr_gp2 {P : Nat → Nat → Nat} {p q k spc spe : Nat} {sk sv ps hd lm : Nat → Int32} {s : Nat} (hSF : mr_SF P p spc spe sk ps) (hq : q < 4) (hk : k < 16) (hkq : k % p = q) (hs : s < spc) (h : mr_HS P q (k + 1) sk hd lm s) :
    mr_vl sk sv (nI k) (P (s + 1) 0) = mr_vl sk sv (nI k) (mr_K hd s) := by
  obtain ⟨h1, h2, h3, h4, h5, h6⟩ := h
  have m1 := mr_SF_m hSF (s := s) (q := q) hs (by omega)
  have m2 := mr_SF_m hSF (s := s) (q := q + 1) hs (by omega)
  rw [← (hSF.2.2 s hs).1]
  refine mr_vl_g (by omega) ?_
  intro j a b e
  have hK : mr_K sk j = k := mr_K_of e (by omega)
  obtain ⟨q', g1, g2, g3, g4⟩ := mr_SF_pt hSF hs (by omega) b
  rw [hK, hkq] at g4
  subst g4
  have := h6 j a g3
  omega
section
variable {pc bz md fa fo lw hg rd bu mp sc se oe : Int32} {rc rk rv mf rf bk bv sk sv ps hd lm os ok ov : Nat → Int32} {p r q spc spe : Nat} {P : Nat → Nat → Nat}
theorem mr_g112 {post : SX → Prop} {J20 : Int32 → Int32 → Int32 → (Nat → Int32) → (Nat → Int32) → (Nat → Int32) → (Nat → Int32) → (Nat → Int32) → (Nat → Int32) → (Nat → Int32) → (Nat → Int32) → (Nat → Int32) → (Nat → Int32) → (Nat → Int32) → (Nat → Int32) → (Nat → Int32) → (Nat → Int32) → (Nat → Int32) → Prop} {J29 : Int32 → Int32 → (Nat → Int32) → (Nat → Int32) → (Nat → Int32) → (Nat → Int32) → (Nat → Int32) → (Nat → Int32) → (Nat → Int32) → (Nat → Int32) → (Nat → Int32) → (Nat → Int32) → (Nat → Int32) → (Nat → Int32) → (Nat → Int32) → (Nat → Int32) → (Nat → Int32) → Prop} {s x : Nat} {x1 x2 : Int32} (hs : s < 32) (hx : x + 1 < 128) (e : hd s = nI x) (h : J29 x2 1 rc rk rv mf rf bk bv sk sv ps (upd hd s (nI (x + 1))) lm os ok ov) :
    wX_reduceGroup_112 post J20 J29 x1 x2 (nI s) pc bz md fa fo lw hg rd bu mp sc se oe rc rk rv mf rf bk bv sk sv ps hd lm os ok ov := by
  have v : vp_in (nI s) 32 := vp_in_nI hs (by decide)
  exact And.intro v (And.intro v (nm_r (e' := upd hd s (nI (x + 1))) (by rw [nI_clamp (by omega), e, nI_1, mr_nb8 hx]) h))
theorem mr_g29 {post : SX → Prop} {J20 : Int32 → Int32 → Int32 → (Nat → Int32) → (Nat → Int32) → (Nat → Int32) → (Nat → Int32) → (Nat → Int32) → (Nat → Int32) → (Nat → Int32) → (Nat → Int32) → (Nat → Int32) → (Nat → Int32) → (Nat → Int32) → (Nat → Int32) → (Nat → Int32) → (Nat → Int32) → (Nat → Int32) → Prop} {k s x0 lim : Nat} {hd0 : Nat → Int32} (hr : r ≤ 4) (hs : s < 32) (hl : lim ≤ 64) (hlm : lm s = nI lim)
    (C : ∀ x hd', x0 ≤ x → x ≤ lim → hd' s = nI x → (∀ s', s' ≠ s → hd' s' = hd0 s') → (∀ j, x0 ≤ j → j < x → sk j = nI k) → (x < lim → sk x ≠ nI k) → J20 (mr_sx r sk sv k x).1 (mr_bi (mr_sx r sk sv k x).2) (nI (s + 1)) rc rk rv mf rf bk bv sk sv ps hd' lm os ok ov) :
    ∀ (d x n : Nat) (hd : Nat → Int32), x + d = lim → d < n → x0 ≤ x → hd s = nI x → (∀ s', s' ≠ s → hd s' = hd0 s') → (∀ j, x0 ≤ j → j < x → sk j = nI k) →
      wX_reduceGroup_29 post J20 (nI k) (nI s) pc bz md fa fo lw hg (nI r) bu mp sc se oe n (mr_sx r sk sv k x).1 (mr_bi (mr_sx r sk sv k x).2) rc rk rv mf rf bk bv sk sv ps hd lm os ok ov := by
  have v : vp_in (nI s) 32 := vp_in_nI hs (by decide)
  have hc : (nI s).toNatClampNeg = s := nI_clamp (by omega)
  intro d
  induction d with
  | zero =>
    intro x n hd hx hn h0 e ho ha
    obtain ⟨n, rfl⟩ : ∃ k, n = k + 1 := ⟨n - 1, by omega⟩
    refine And.intro v (And.intro v (pk_le lim x (fun z => ?_) (fun z => by omega) (by rw [hc]; exact hlm) (by rw [hc]; exact e)))
    exact nm_r (nI_1 s) (C x hd h0 (by omega) e ho ha (fun z => by omega))
  | succ d ih =>
    intro x n hd hx hn h0 e ho ha
    obtain ⟨n, rfl⟩ : ∃ k, n = k + 1 := ⟨n - 1, by omega⟩
    have v4 : vp_in (hd (nI s).toNatClampNeg) 64 := by rw [hc, e]; exact vp_in_nI (by omega) (by decide)
    have hx2 : (hd (nI s).toNatClampNeg).toNatClampNeg = x := by rw [hc, e]; exact nI_clamp (by omega)
    refine And.intro v (And.intro v (pk_le lim x (fun z => by omega) (fun z => ?_) (by rw [hc]; exact hlm) (by rw [hc]; exact e)))
    refine And.intro v (And.intro v4 (br_c (fun es => ?_) (fun es => ?_)))
    · rw [hx2] at es
      refine And.intro v (And.intro v4 (nm_r (e' := sv x) (by rw [hx2]) ?_))
      have nx : wX_reduceGroup_29 post J20 (nI k) (nI s) pc bz md fa fo lw hg (nI r) bu mp sc se oe n (mr_st r (mr_sx r sk sv k x) (sv x)).1 1 rc rk rv mf rf bk bv sk sv ps (upd hd s (nI (x + 1))) lm os ok ov := by
        have := ih (x + 1) n (upd hd s (nI (x + 1))) (by omega) (by omega) (by omega) pk_us (fun s' hs' => by rw [pk_un hs']; exact ho s' hs') (fun j a b => by
          by_cases c : j = x
          · rw [c]; exact es
          · exact ha j a (by omega))
        rw [mr_sx_t es] at this
        exact this
      refine pk_eq r 4 (fun e4 => ?_) (fun e4 => ?_)
      · have eq : (mr_st r (mr_sx r sk sv k x) (sv x)).1 = 31 * (mr_sx r sk sv k x).1 + sv x := if_pos e4
        rw [eq] at nx
        exact nm_e (mr_g112 hs (by omega) e nx)
      · have eq : (mr_st r (mr_sx r sk sv k x) (sv x)).1 = if (mr_sx r sk sv k x).2 = true then mr_cb r (mr_sx r sk sv k x).1 (sv x) else sv x := if_neg e4
        rw [eq] at nx
        by_cases c : (mr_sx r sk sv k x).2 = true
        · rw [if_pos c] at nx
          refine br_f (by rw [c]; decide) (mr_comb hr _ _ ?_)
          exact mr_g112 hs (by omega) e nx
        · rw [if_neg c] at nx
          refine br_t (if_neg c) ?_
          exact mr_g112 hs (by omega) e nx
    · rw [hx2] at es
      exact nm_r (nI_1 s) (C x hd h0 (by omega) e ho ha (fun _ => es))
theorem mr_g20 {post : SX → Prop} {k o : Nat} (hr : r ≤ 4) (hq : q < 4) (hsc : spc ≤ 32) (hse : spe ≤ 64) (hk : k < 16) (hkq : k % p = q) (ho : o < 16) (hSF : mr_SF P p spc spe sk ps) (hR : mr_R sk spe)
    (C : ∀ hd', (∀ s, s < spc → mr_HS P q (k + 1) sk hd' lm s) → post (pc, bz, md, fa, fo, lw, hg, nI r, bu, mp, nI spc, se, nI (o + 1), rc, rk, rv, mf, rf, bk, bv, sk, sv, ps, hd', lm, os, upd ok o (nI k), upd ov o (mr_sx r sk sv k spe).1)) :
    ∀ (d s n : Nat) (hd : Nat → Int32), s + d = spc → d < n → (∀ s', s' < s → mr_HS P q (k + 1) sk hd lm s') → (∀ s', s ≤ s' → s' < spc → mr_HS P q k sk hd lm s') →
      wX_reduceGroup_20 post (nI k) pc bz md fa fo lw hg (nI r) bu mp (nI spc) se (nI o) n (mr_sx r sk sv k (P s 0)).1 (mr_bi (mr_sx r sk sv k (P s 0)).2) (nI s) rc rk rv mf rf bk bv sk sv ps hd lm os ok ov := by
  intro d
  induction d with
  | zero =>
    intro s n hd hs hn h1 h2
    obtain ⟨n, rfl⟩ : ∃ k, n = k + 1 := ⟨n - 1, by omega⟩
    have e : s = spc := by omega
    subst e
    have v : vp_in (nI o) 16 := vp_in_nI ho (by decide)
    have hc : (nI o).toNatClampNeg = o := nI_clamp (by omega)
    rw [hSF.2.1]
    refine br_t (nI_le (Nat.le_refl _) (by omega)) ?_
    exact And.intro v (nm_r (e' := upd ok o (nI k)) (by rw [hc, mr_nb8 (by omega)]) (And.intro v (nm_r (e' := upd ov o (mr_sx r sk sv k spe).1) (by rw [hc]) (nm_r (nI_1 o) (C hd h1)))))
  | succ d ih =>
    intro s n hd hs hn h1 h2
    obtain ⟨n, rfl⟩ : ∃ k, n = k + 1 := ⟨n - 1, by omega⟩
    have hS := h2 s (Nat.le_refl _) (by omega)
    have hb := mr_SF_b hSF (s := s) (q := q + 1) (by omega) (by omega)
    have g1 : mr_sx r sk sv k (P s 0) = mr_sx r sk sv k (mr_K hd s) := by
      unfold mr_sx
      rw [mr_gp1 hSF hq hk hkq (by omega) hS]
    rw [g1]
    have hlim := hS.2.2.2.1
    refine br_f (nI_ge (by omega) (by omega)) (Exists.intro (P s (q + 1) + 1) ?_)
    refine mr_g29 (x0 := mr_K hd s) (lim := P s (q + 1)) (hd0 := hd) hr (by omega) (by omega) hS.2.1 ?_ (P s (q + 1) - mr_K hd s) (mr_K hd s) (P s (q + 1) + 1) hd (by omega) (by omega) (Nat.le_refl _) hS.1 (fun _ _ => rfl) (fun j a b => by omega)
    intro x hd' k1 k2 k3 k4 k5 k6
    have hS' : mr_HS P q (k + 1) sk hd' lm s := mr_HS_n hSF hR hq hk (by omega) hS k1 k2 (by omega) k5 k6 k3
    have hK : mr_K hd' s = x := mr_K_of k3 (by omega)
    have g2 : mr_sx r sk sv k x = mr_sx r sk sv k (P (s + 1) 0) := by
      unfold mr_sx
      rw [mr_gp2 hSF hq hk hkq (by omega) hS', hK]
    rw [g2]
    refine ih (s + 1) n hd' (by omega) (by omega) ?_ ?_
    · intro s' hs'
      by_cases c : s' = s
      · rw [c]; exact hS'
      · exact mr_HS_c (k4 s' c) (h1 s' (by omega))
    · intro s' a b
      exact mr_HS_c (k4 s' (by omega)) (h2 s' (by omega) b)
theorem mr_group {post : SX → Prop} {k o : Nat} (hr : r ≤ 4) (hq : q < 4) (hsc : spc ≤ 32) (hse : spe ≤ 64) (hk : k < 16) (hkq : k % p = q) (ho : o < 16) (hSF : mr_SF P p spc spe sk ps) (hR : mr_R sk spe) (hI : ∀ s, s < spc → mr_HS P q k sk hd lm s)
    (C : ∀ hd', (∀ s, s < spc → mr_HS P q (k + 1) sk hd' lm s) → post (pc, bz, md, fa, fo, lw, hg, nI r, bu, mp, nI spc, se, nI (o + 1), rc, rk, rv, mf, rf, bk, bv, sk, sv, ps, hd', lm, os, upd ok o (nI k), upd ov o (mr_sx r sk sv k spe).1)) :
    wpX_reduceGroup post (pc, bz, md, fa, fo, lw, hg, nI r, bu, mp, nI spc, se, nI o, rc, rk, rv, mf, rf, bk, bv, sk, sv, ps, hd, lm, os, ok, ov) (nI k) := by
  have L := mr_g20 hr hq hsc hse hk hkq ho hSF hR C spc 0 (spc + 1) hd (by omega) (by omega) (fun s hs => absurd hs (Nat.not_lt_zero s)) (fun s _ hs => hI s hs)
  have e0 : mr_sx r sk sv k (P 0 0) = mr_in r := by rw [hSF.1]; rfl
  rw [e0] at L
  refine pk_eq r 4 (fun e => ?_) (fun e => ?_)
  · have e1 : (mr_in r).1 = 7 := if_pos e
    rw [e1] at L
    exact Exists.intro (spc + 1) L
  · have e1 : (mr_in r).1 = 0 := if_neg e
    rw [e1] at L
    exact Exists.intro (spc + 1) L
end
end
section
/-! reducePart: all groups of a part, tries that fail ahead of it -/
def mr_OU (h : Nat → Bool) (p q o0 n : Nat) (res : Nat → Int32) (ok ov : Nat → Int32) : Prop := ∀ k, k < n → h k = true → k % p = q → ok (o0 + mr_cn h p q k) = nI k ∧ ov (o0 + mr_cn h p q k) = res k
def mr_PR (o0 : Nat) (ok0 ov0 ok ov : Nat → Int32) : Prop := ∀ j, j < o0 → ok j = ok0 j ∧ ov j = ov0 j
theorem mr_OU_g {h : Nat → Bool} {p q o0 n n' : Nat} {res ok ov : Nat → Int32} (u : mr_OU h p q o0 n res ok ov) (g : ∀ j, n ≤ j → j < n' → h j = true → j % p = q → False) : mr_OU h p q o0 n' res ok ov := by
  intro k a b c
  by_cases d : k < n
  · exact u k d b c
  · exact (g k (by omega) a b c).elim
theorem mr_OU_s {h : Nat → Bool} {p q o0 k : Nat} {res ok ov : Nat → Int32} (u : mr_OU h p q o0 k res ok ov) (hk : h k = true) (hq : k % p = q) : mr_OU h p q o0 (k + 1) res (upd ok (o0 + mr_cn h p q k) (nI k)) (upd ov (o0 + mr_cn h p q k) (res k)) := by
  intro j a b c
  by_cases d : j = k
  · subst d
    exact ⟨pk_us, pk_us⟩
  · have := mr_cn_x b c (show j < k by omega)
    rw [pk_un (by omega), pk_un (by omega)]
    exact u j (by omega) b c
theorem mr_PR_s {o0 i : Nat} {ok0 ov0 ok ov : Nat → Int32} {x y : Int32} (h : mr_PR o0 ok0 ov0 ok ov) : mr_PR o0 ok0 ov0 (upd ok (o0 + i) x) (upd ov (o0 + i) y) := by
  intro j hj
  rw [pk_un (by omega), pk_un (by omega)]
  exact h j hj
section
variable {pc bz md fa fo lw hg rd bu mp sc se oe : Int32} {rc rk rv mf rf bk bv sk sv ps hd lm os ok ov : Nat → Int32} {p r q spc spe o0 : Nat} {P : Nat → Nat → Nat} {h : Nat → Bool} {ok0 ov0 : Nat → Int32}
theorem mr_35z {post : SX → Prop} {J : Int32 → Int32 → Int32 → Int32 → Int32 → Int32 → Int32 → Int32 → Int32 → Int32 → Int32 → Int32 → Int32 → Int32 → (Nat → Int32) → (Nat → Int32) → (Nat → Int32) → (Nat → Int32) → (Nat → Int32) → (Nat → Int32) → (Nat → Int32) → (Nat → Int32) → (Nat → Int32) → (Nat → Int32) → (Nat → Int32) → (Nat → Int32) → (Nat → Int32) → (Nat → Int32) → (Nat → Int32) → Prop} {x1 x2 : Int32} (hr : r ≤ 4) (hq : q < 4) (hsc : spc ≤ 32) (hse : spe ≤ 64) (ho : o0 + mr_cn h p q 16 ≤ 16) (hSF : mr_SF P p spc spe sk ps) (hR : mr_R sk spe) (hh : ∀ k, k < 16 → (h k = true ↔ ∃ j, j < spe ∧ sk j = nI k))
    (C : ∀ hd' ok' ov', mr_OU h p q o0 16 (fun k => (mr_sx r sk sv k spe).1) ok' ov' → mr_PR o0 ok0 ov0 ok' ov' → J (nI 0 + (-1)) pc bz md fa fo lw hg (nI r) bu mp (nI spc) se (nI (o0 + mr_cn h p q 16)) rc rk rv mf rf bk bv sk sv ps hd' lm os ok' ov') :
    ∀ (d k n : Nat) (x : Int32) (hd ok ov : Nat → Int32), 16 - k ≤ d → d < n → k ≤ 16 → (∀ s, s < spc → mr_HS P q k sk hd lm s) → mr_LR P q sk hd spc x → mr_OU h p q o0 k (fun k => (mr_sx r sk sv k spe).1) ok ov → mr_PR o0 ok0 ov0 ok ov →
      wX_reducePart_35 post J x1 x2 (nI 0) n x 1 pc bz md fa fo lw hg (nI r) bu mp (nI spc) se (nI (o0 + mr_cn h p q k)) rc rk rv mf rf bk bv sk sv ps hd lm os ok ov := by
  have ex : ∀ (k n : Nat) (hd ok ov : Nat → Int32), k ≤ 16 → (∀ s, s < spc → mr_HS P q k sk hd lm s) → (∀ s, s < spc → mr_K hd s = P s (q + 1)) → mr_OU h p q o0 k (fun k => (mr_sx r sk sv k spe).1) ok ov → mr_PR o0 ok0 ov0 ok ov →
      wX_reducePart_35 post J x1 x2 (nI 0) (n + 1) (-1) 1 pc bz md fa fo lw hg (nI r) bu mp (nI spc) se (nI (o0 + mr_cn h p q k)) rc rk rv mf rf bk bv sk sv ps hd lm os ok ov := by
    intro k n hd ok ov hk hI he hO hP
    have gap : ∀ j, k ≤ j → j < 16 → h j = true → j % p = q → False := fun j a b c d =>
      mr_HI_no hSF hI (mr_HI_end hI he (show k ≤ 16 by omega)) a b b d ((hh j b).mp c)
    have := C hd ok ov (mr_OU_g hO gap) hP
    rw [mr_cn_g hk gap] at this
    exact br_t (by decide) (nm_e this)
  intro d
  induction d with
  | zero =>
    intro k n x hd ok ov hd' hn hk hI hL hO hP
    obtain ⟨n, rfl⟩ : ∃ k, n = k + 1 := ⟨n - 1, by omega⟩
    rcases hL with ⟨e, g⟩ | ⟨m, h1, h2, h3, h5⟩
    · subst e
      exact ex k n hd ok ov hk hI g hO hP
    · have := (mr_HI_up hSF hR hq hI h3 h5).1
      omega
  | succ d ih =>
    intro k n x hd ok ov hd' hn hk hI hL hO hP
    obtain ⟨n, rfl⟩ : ∃ k, n = k + 1 := ⟨n - 1, by omega⟩
    rcases hL with ⟨e, g⟩ | ⟨m, h1, h2, h3, h5⟩
    · subst e
      exact ex k n hd ok ov hk hI g hO hP
    · subst h2
      obtain ⟨g1, g2, g3, g4⟩ := mr_HI_up hSF hR hq hI h3 h5
      have gap : ∀ j, k ≤ j → j < m → h j = true → j % p = q → False := fun j a b c d =>
        mr_HI_no hSF hI g4 a b (by omega) d ((hh j (by omega)).mp c)
      have hm : h m = true := (hh m h1).mpr g3
      have hx := mr_cn_x hm g2 h1
      rw [← mr_cn_g g1 gap]
      refine br_f (nI_pos (by omega)) (br_f (by decide) ?_)
      refine mr_group hr hq hsc hse h1 g2 (by omega) hSF hR g4 ?_
      intro hd2 hI2
      refine br_t (by decide) ?_
      refine mr_least hq hsc hse hSF hR hI2 ?_
      intro x2 hL2
      have hO2 := mr_OU_s (mr_OU_g hO gap) hm g2
      have nx := ih (m + 1) n x2 hd2 _ _ (by omega) (by omega) (by omega) hI2 hL2 hO2 (mr_PR_s hP)
      rw [mr_cn_t hm g2] at nx
      exact nx
theorem mr_35f {post : SX → Prop} {J : Int32 → Int32 → Int32 → Int32 → Int32 → Int32 → Int32 → Int32 → Int32 → Int32 → Int32 → Int32 → Int32 → Int32 → (Nat → Int32) → (Nat → Int32) → (Nat → Int32) → (Nat → Int32) → (Nat → Int32) → (Nat → Int32) → (Nat → Int32) → (Nat → Int32) → (Nat → Int32) → (Nat → Int32) → (Nat → Int32) → (Nat → Int32) → (Nat → Int32) → (Nat → Int32) → (Nat → Int32) → Prop} {x1 x2 : Int32} {a : Nat} (ha : a < 100) (hr : r ≤ 4) (hq : q < 4) (hsc : spc ≤ 32) (hse : spe ≤ 64) (ho : o0 + mr_cn h p q 16 ≤ 16) (hSF : mr_SF P p spc spe sk ps) (hR : mr_R sk spe) (hh : ∀ k, k < 16 → (h k = true ↔ ∃ j, j < spe ∧ sk j = nI k))
    (C : ∀ oe' hd' ok' ov', mr_PR o0 ok0 ov0 ok' ov' → J (nI (a + 1) + (-1)) pc bz md fa fo lw hg (nI r) bu mp (nI spc) se oe' rc rk rv mf rf bk bv sk sv ps hd' lm os ok' ov')
    (hI : ∀ s, s < spc → mr_HS P q 0 sk hd lm s) {x : Int32} (hL : mr_LR P q sk hd spc x) (hP : mr_PR o0 ok0 ov0 ok ov) :
      wX_reducePart_35 post J x1 x2 (nI (a + 1)) 2 x 1 pc bz md fa fo lw hg (nI r) bu mp (nI spc) se (nI o0) rc rk rv mf rf bk bv sk sv ps hd lm os ok ov := by
  rcases hL with ⟨e, g⟩ | ⟨m, h1, h2, h3, h5⟩
  · subst e
    exact br_t (by decide) (nm_e (C _ hd ok ov hP))
  · subst h2
    obtain ⟨g1, g2, g3, g4⟩ := mr_HI_up hSF hR hq hI h3 h5
    have hm : h m = true := (hh m h1).mpr g3
    have hx := mr_cn_x hm g2 h1
    refine br_f (nI_pos (by omega)) (br_f (by decide) ?_)
    refine mr_group hr hq hsc hse h1 g2 (by omega) hSF hR g4 ?_
    intro hd2 hI2
    refine br_f (nI_ne0 (by omega) (by omega)) ?_
    refine mr_least hq hsc hse hSF hR hI2 ?_
    intro x2 hL2
    have nx := C (nI (o0 + 1)) hd2 _ _ (mr_PR_s (i := 0) (x := nI m) (y := (mr_sx r sk sv m spe).1) hP)
    exact br_c (fun _ => nm_e nx) (fun _ => br_t rfl (nm_e nx))
theorem mr_r12 {post : SX → Prop} (hr : r ≤ 4) (hq : q < 4) (hsc : spc ≤ 32) (hse : spe ≤ 64) (ho : o0 + mr_cn h p q 16 ≤ 16) (hSF : mr_SF P p spc spe sk ps) (hR : mr_R sk spe) (hh : ∀ k, k < 16 → (h k = true ↔ ∃ j, j < spe ∧ sk j = nI k))
    (C : ∀ hd' lm' ok' ov', mr_OU h p q o0 16 (fun k => (mr_sx r sk sv k spe).1) ok' ov' → mr_PR o0 ok0 ov0 ok' ov' → post (pc, bz, md, fa, fo, lw, hg, nI r, bu, mp, nI spc, se, nI (o0 + mr_cn h p q 16), rc, rk, rv, mf, rf, bk, bv, sk, sv, ps, hd', lm', os, ok', ov')) :
    ∀ (a n : Nat) (oe : Int32) (hd lm ok ov : Nat → Int32), a < 100 → a + 1 < n → mr_PR o0 ok0 ov0 ok ov → wX_reducePart_12 post (nI q) (nI o0) n (nI a) pc bz md fa fo lw hg (nI r) bu mp (nI spc) se oe rc rk rv mf rf bk bv sk sv ps hd lm os ok ov := by
  intro a
  induction a with
  | zero =>
    intro n oe hd lm ok ov ha hn hP
    obtain ⟨n, rfl⟩ : ∃ k, n = k + 2 := ⟨n - 2, by omega⟩
    refine br_f (by decide) (mr_open hq hsc hse hSF ?_)
    intro hd1 lm1 hI
    refine mr_least hq hsc hse hSF hR hI ?_
    intro x hL
    refine Exists.intro 17 ?_
    refine mr_35z (o0 := o0) (h := h) (ok0 := ok0) (ov0 := ov0) hr hq hsc hse ho hSF hR hh ?_ 16 0 17 x hd1 ok ov (by omega) (by omega) (by omega) hI hL (fun k hk => absurd hk (Nat.not_lt_zero k)) hP
    intro hd2 ok2 ov2 k1 k2
    exact br_t (by decide) (C hd2 lm1 ok2 ov2 k1 k2)
  | succ a ih =>
    intro n oe hd lm ok ov ha hn hP
    obtain ⟨n, rfl⟩ : ∃ k, n = k + 1 := ⟨n - 1, by omega⟩
    refine br_f (nI_pos (by omega)) (mr_open hq hsc hse hSF ?_)
    intro hd1 lm1 hI
    refine mr_least hq hsc hse hSF hR hI ?_
    intro x hL
    refine Exists.intro 2 ?_
    refine mr_35f (o0 := o0) (h := h) (ok0 := ok0) (ov0 := ov0) (by omega) hr hq hsc hse ho hSF hR hh ?_ hI hL hP
    intro oe2 hd2 ok2 ov2 k1
    rw [pk_m1]
    exact ih n oe2 hd2 lm1 ok2 ov2 (by omega) (by omega) k1
theorem mr_rpart {post : SX → Prop} {f : Nat} (hr : r ≤ 4) (hq : q < 4) (hsc : spc ≤ 32) (hse : spe ≤ 64) (ho : o0 + mr_cn h p q 16 ≤ 16) (hSF : mr_SF P p spc spe sk ps) (hR : mr_R sk spe) (hh : ∀ k, k < 16 → (h k = true ↔ ∃ j, j < spe ∧ sk j = nI k)) (hf : f ≤ 3) (hrf : rf q = nI f)
    (C : ∀ hd' lm' ok' ov', mr_OU h p q o0 16 (fun k => (mr_sx r sk sv k spe).1) ok' ov' → mr_PR o0 ok ov ok' ov' → post (pc, bz, md, fa, fo, lw, hg, nI r, bu, mp, nI spc, se, nI (o0 + mr_cn h p q 16), rc, rk, rv, mf, rf, bk, bv, sk, sv, ps, hd', lm', os, ok', ov')) :
    wpX_reducePart post (pc, bz, md, fa, fo, lw, hg, nI r, bu, mp, nI spc, se, nI o0, rc, rk, rv, mf, rf, bk, bv, sk, sv, ps, hd, lm, os, ok, ov) (nI q) := by
  have v : vp_in (nI q) 4 := vp_in_nI hq (by decide)
  have hc : (nI q).toNatClampNeg = q := nI_clamp (by omega)
  refine And.intro v (nm_r (e' := nI f) (by rw [hc]; exact hrf) (Exists.intro (f + 2) ?_))
  exact mr_r12 hr hq hsc hse ho hSF hR hh C f (f + 2) _ hd lm ok ov (by omega) (by omega) (fun _ _ => ⟨rfl, rfl⟩)
end
end
section
/-! the reference: counts, keyOf, reduce -/
def mr_hb (l : List Int32) : Bool := !l.isEmpty
theorem mr_hb_i (l : List Int32) : mr_hb l = true ↔ l ≠ [] := by
  cases l with
  | nil => exact ⟨fun z => absurd z (by decide), fun z => absurd rfl z⟩
  | cons a l => exact ⟨fun _ z => (List.cons_ne_nil a l) z, fun _ => rfl⟩
theorem mr_hb_c {a v w : Nat → Int32} {k : Int32} {n : Nat} : mr_hb (mr_vl a v k n) = mr_hb (mr_vl a w k n) := by
  rw [Bool.eq_iff_iff, mr_hb_i, mr_hb_i]
  constructor
  · intro z
    obtain ⟨j, hj, e⟩ := mr_vl_ne z
    exact mr_vl_mem hj e
  · intro z
    obtain ⟨j, hj, e⟩ := mr_vl_ne z
    exact mr_vl_mem hj e
theorem mr_vl_len {a v : Nat → Int32} {k : Int32} : ∀ n : Nat, (mr_vl a v k n).length ≤ n := by
  intro n
  induction n with
  | zero => exact Nat.le_refl _
  | succ n ih =>
    by_cases c : a n = k
    · rw [mr_vl_t c, List.length_append]
      show _ + 1 ≤ _
      omega
    · rw [mr_vl_f c]; omega
theorem mr_a4 (l : List Int32) (w : Int32) : (mr_fo 4 (mr_in 4) (l ++ [w])).1 = 31 * (mr_fo 4 (mr_in 4) l).1 + w := by
  rw [mr_fo_sn]
  rfl
theorem mr_a0 (l : List Int32) (w : Int32) : (mr_fo 0 (mr_in 0) (l ++ [w])).1 = (mr_fo 0 (mr_in 0) l).1 + w := by
  rw [mr_fo_sn]
  by_cases c : l = []
  · subst c
    show w = 0 + w
    rw [Int32.zero_add]
  · show (if (mr_fo 0 (mr_in 0) l).2 = true then mr_cb 0 (mr_fo 0 (mr_in 0) l).1 w else w) = _
    rw [if_pos (mr_fo_2 0 l _ c)]
    rfl
theorem mr_a1e (w : Int32) : (mr_fo 1 (mr_in 1) ([] ++ [w])).1 = w := rfl
theorem mr_a2e (w : Int32) : (mr_fo 2 (mr_in 2) ([] ++ [w])).1 = w := rfl
theorem mr_a1n {l : List Int32} (c : l ≠ []) (w : Int32) : (mr_fo 1 (mr_in 1) (l ++ [w])).1 = if w ≤ (mr_fo 1 (mr_in 1) l).1 then (mr_fo 1 (mr_in 1) l).1 else w := by
  rw [mr_fo_sn]
  show (if (mr_fo 1 (mr_in 1) l).2 = true then mr_cb 1 (mr_fo 1 (mr_in 1) l).1 w else w) = _
  rw [if_pos (mr_fo_2 1 l _ c)]
  generalize (mr_fo 1 (mr_in 1) l).1 = a
  show (if a ≤ w then w else a) = _
  by_cases x : a ≤ w
  · by_cases y : w ≤ a
    · rw [if_pos x, if_pos y]; exact Int32.le_antisymm y x
    · rw [if_pos x, if_neg y]
  · rw [if_neg x, if_pos (by simp only [Int32.le_iff_toInt_le] at x ⊢; omega)]
theorem mr_a2n {l : List Int32} (c : l ≠ []) (w : Int32) : (mr_fo 2 (mr_in 2) (l ++ [w])).1 = if (mr_fo 2 (mr_in 2) l).1 ≤ w then (mr_fo 2 (mr_in 2) l).1 else w := by
  rw [mr_fo_sn]
  show (if (mr_fo 2 (mr_in 2) l).2 = true then mr_cb 2 (mr_fo 2 (mr_in 2) l).1 w else w) = _
  rw [if_pos (mr_fo_2 2 l _ c)]
  generalize (mr_fo 2 (mr_in 2) l).1 = a
  show (if w ≤ a then w else a) = _
  by_cases x : w ≤ a
  · by_cases y : a ≤ w
    · rw [if_pos x, if_pos y]; exact Int32.le_antisymm x y
    · rw [if_pos x, if_neg y]
  · rw [if_neg x, if_pos (by simp only [Int32.le_iff_toInt_le] at x ⊢; omega)]
theorem mr_tally {a v : Nat → Int32} {k : Int32} : ∀ n : Nat, (mr_fo 3 (mr_in 3) (mr_vl a (fun _ => 1) k n)).1 = nI (mr_vl a v k n).length := by
  intro n
  induction n with
  | zero => rfl
  | succ n ih =>
    by_cases c : a n = k
    · rw [mr_vl_t c, mr_vl_t c, mr_fo_sn, List.length_append]
      show (if (mr_fo 3 (mr_in 3) (mr_vl a (fun _ => 1) k n)).2 = true then mr_cb 3 (mr_fo 3 (mr_in 3) (mr_vl a (fun _ => 1) k n)).1 1 else 1) = nI ((mr_vl a v k n).length + 1)
      by_cases d : mr_vl a (fun _ => 1) k n = []
      · have d' : mr_vl a v k n = [] := by
          by_cases z : mr_vl a v k n = []
          · exact z
          · obtain ⟨j, hj, e⟩ := mr_vl_ne z
            exact absurd d (mr_vl_mem hj e)
        rw [d, d']
        rfl
      · rw [if_pos (mr_fo_2 3 _ _ d), ← nI_1, ← ih]
        rfl
    · rw [mr_vl_f c, mr_vl_f c]
      exact ih
theorem mr_W_3 {fa fo : Int32} {rv : Nat → Int32} : mr_W 3 fa fo rv = fun _ => 1 := rfl
theorem mr_W_n {r : Nat} {fa fo : Int32} {rv : Nat → Int32} (h : r ≠ 3) : mr_W r fa fo rv = fun n => fa * rv n + fo := by
  funext n
  exact if_neg h
section
variable {pt yd yf yo yl yh ym : Int32} {sz ks vs fl hs rs : Nat → Int32} {r m : Nat}
theorem mr_ycounts {post : Int32 → Prop} {n : Nat} (hn : n < 64) (h : post (mr_bi (mr_C sz vs yl yh n))) : wpY_counts post (pt, yd, yf, yo, yl, yh, ym, sz, ks, vs, fl, hs, rs) (nI n) := by
  have e1 : nI n >>> ((4 : Int32) &&& 31) = nI (n / 16) := pk_shrN (by omega) _ 4 (by decide)
  have e2 : nI n &&& 15 = nI (n % 16) := pk_andN (by omega) 4 (by decide)
  have v1 : vp_in (nI n >>> ((4 : Int32) &&& 31)) 4 := by rw [e1]; exact vp_in_nI (by omega) (by decide)
  have v2 : vp_in (nI n) 64 := vp_in_nI hn (by decide)
  have c1 : (nI n >>> ((4 : Int32) &&& 31)).toNatClampNeg = n / 16 := by rw [e1]; exact nI_clamp (by omega)
  have c2 : (nI n).toNatClampNeg = n := nI_clamp (by omega)
  refine And.intro v1 ?_
  rw [c1, c2, e2]
  refine br_c (fun z => ?_) (fun z => And.intro v2 (br_c (fun y => ?_) (fun y => And.intro v2 (br_c (fun x => ?_) (fun x => ?_)))))
  · rw [mr_C_1 (Int32.not_lt.mpr z)] at h
    exact h
  · rw [mr_C_2 y] at h
    exact h
  · rw [mr_C_3 x] at h
    exact h
  · rw [mr_C_t (Int32.not_le.mp z) y x] at h
    exact h
theorem mr_ykey {post : Int32 → Prop} {n : Nat} (hn : n < 64) (hm1 : 1 ≤ m) (hm16 : m ≤ 16) (h : post (mr_kf (nI m) (ks n))) : wpY_keyOf post (pt, nI m, yf, yo, yl, yh, ym, sz, ks, vs, fl, hs, rs) (nI n) := by
  have v2 : vp_in (nI n) 64 := vp_in_nI hn (by decide)
  have c2 : (nI n).toNatClampNeg = n := nI_clamp (by omega)
  refine And.intro v2 (br_t (nI_le (a := 1) hm1 (by omega)) ?_)
  rw [c2]
  refine And.intro (nI_ne0 (by omega) (by omega)) (nm_e ?_)
  unfold mr_kf at h
  refine br_c (fun z => ?_) (fun z => ?_)
  · rw [if_pos z] at h
    exact h
  · rw [if_neg z] at h
    exact h
def mr_b (l : List Int32) : Nat := l.length
theorem mr_y94 {post : Int32 → SY → Prop} {J : Int32 → Int32 → Int32 → Int32 → Int32 → Int32 → Prop} {x1 x2 x3 x4 x6 w : Int32} {l : List Int32} {n : Nat} (hl : l.length ≤ 64) (h : J x3 x4 (nI (l ++ [w]).length) x6 (mr_fo 2 (mr_in 2) (l ++ [w])).1 (nI (n + 1))) :
    wY_reduce_94 post J x1 x2 x3 x4 (nI l.length) x6 (mr_fo 2 (mr_in 2) l).1 (nI n) w pt yd yf yo yl yh ym sz ks vs fl hs rs := by
  have e : (l ++ [w]).length = l.length + 1 := by rw [List.length_append]; rfl
  rw [e] at h
  refine pk_eq l.length 0 (fun z => ?_) (fun z => ?_)
  · have c : l = [] := List.length_eq_zero_iff.mp z
    rw [c] at h ⊢
    rw [mr_a2e] at h
    exact nm_r (nI_1 _) (nm_r (nI_1 n) h)
  · have c : l ≠ [] := fun y => z (by rw [y]; rfl)
    rw [mr_a2n c] at h
    refine br_c (fun y => ?_) (fun y => ?_)
    · rw [if_pos y] at h
      exact nm_r (nI_1 _) (nm_r (nI_1 n) h)
    · rw [if_neg y] at h
      exact nm_r (nI_1 _) (nm_r (nI_1 n) h)
theorem mr_y18 {post : Int32 → SY → Prop} {k : Nat} {x1 : Int32} (hm1 : 1 ≤ m) (hm16 : m ≤ 16) (hk : k < 16)
    (C : ∀ z : Int32, z = mr_bi (mr_hb (mr_vl (mr_RK (nI m) yl yh sz ks vs) (fun n => yf * vs n + yo) (nI k) 64)) → wY_reduce_134 post x1 (mr_fo 4 (mr_in 4) (mr_vl (mr_RK (nI m) yl yh sz ks vs) (fun n => yf * vs n + yo) (nI k) 64)).1 (mr_fo 0 (mr_in 0) (mr_vl (mr_RK (nI m) yl yh sz ks vs) (fun n => yf * vs n + yo) (nI k) 64)).1 (nI (mr_vl (mr_RK (nI m) yl yh sz ks vs) (fun n => yf * vs n + yo) (nI k) 64).length) (mr_fo 1 (mr_in 1) (mr_vl (mr_RK (nI m) yl yh sz ks vs) (fun n => yf * vs n + yo) (nI k) 64)).1 (mr_fo 2 (mr_in 2) (mr_vl (mr_RK (nI m) yl yh sz ks vs) (fun n => yf * vs n + yo) (nI k) 64)).1 z (nI k) pt (nI m) yf yo yl yh ym sz ks vs fl hs rs) :
    ∀ d n f : Nat, n + d = 64 → d < f → wY_reduce_18 post x1 (nI k) pt (nI m) yf yo yl yh ym sz ks vs fl hs rs f (mr_fo 4 (mr_in 4) (mr_vl (mr_RK (nI m) yl yh sz ks vs) (fun n => yf * vs n + yo) (nI k) n)).1 (mr_fo 0 (mr_in 0) (mr_vl (mr_RK (nI m) yl yh sz ks vs) (fun n => yf * vs n + yo) (nI k) n)).1 (nI (mr_vl (mr_RK (nI m) yl yh sz ks vs) (fun n => yf * vs n + yo) (nI k) n).length) (mr_fo 1 (mr_in 1) (mr_vl (mr_RK (nI m) yl yh sz ks vs) (fun n => yf * vs n + yo) (nI k) n)).1 (mr_fo 2 (mr_in 2) (mr_vl (mr_RK (nI m) yl yh sz ks vs) (fun n => yf * vs n + yo) (nI k) n)).1 (nI n) := by
  intro d
  induction d with
  | zero =>
    intro n f hn hf
    obtain ⟨f, rfl⟩ : ∃ k, f = k + 1 := ⟨f - 1, by omega⟩
    have e : n = 64 := by omega
    subst e
    have hl := mr_vl_len (a := (mr_RK (nI m) yl yh sz ks vs)) (v := (fun n => yf * vs n + yo)) (k := nI k) 64
    refine br_t (by decide) (pk_le (mr_vl (mr_RK (nI m) yl yh sz ks vs) (fun n => yf * vs n + yo) (nI k) 64).length 0 (fun z => C 0 ?_) (fun z => C 1 ?_))
    · have c : mr_vl (mr_RK (nI m) yl yh sz ks vs) (fun n => yf * vs n + yo) (nI k) 64 = [] := List.length_eq_zero_iff.mp (by omega)
      rw [c]
      rfl
    · have c : mr_hb (mr_vl (mr_RK (nI m) yl yh sz ks vs) (fun n => yf * vs n + yo) (nI k) 64) = true := (mr_hb_i _).mpr (fun y => by rw [y] at z; exact absurd z (by decide))
      rw [c]
      rfl
  | succ d ih =>
    intro n f hn hf
    obtain ⟨f, rfl⟩ : ∃ k, f = k + 1 := ⟨f - 1, by omega⟩
    have nx := ih (n + 1) f (by omega) (by omega)
    have v2 : vp_in (nI n) 64 := vp_in_nI (by omega) (by decide)
    have c2 : (nI n).toNatClampNeg = n := nI_clamp (by omega)
    have hl := mr_vl_len (a := (mr_RK (nI m) yl yh sz ks vs)) (v := (fun n => yf * vs n + yo)) (k := nI k) n
    refine br_f (nI_ge (b := 64) (by omega) (by decide)) (mr_ycounts (by omega) ?_)
    by_cases c : mr_C sz vs yl yh n = true
    · have eR : mr_RK (nI m) yl yh sz ks vs n = mr_kf (nI m) (ks n) := mr_RK_t c
      refine br_f (by rw [c]; decide) (mr_ykey (by omega) hm1 hm16 (br_c (fun e => ?_) (fun e => ?_)))
      · rw [mr_vl_t (eR.trans e), mr_a4, mr_a0] at nx
        refine And.intro v2 (nm_r (e' := yf * vs n + yo) (by rw [c2]) (nm_e (nm_e ?_)))
        generalize mr_vl (mr_RK (nI m) yl yh sz ks vs) (fun n => yf * vs n + yo) (nI k) n = l at *
        refine pk_eq l.length 0 (fun z => ?_) (fun z => br_c (fun y => ?_) (fun y => ?_))
        · refine mr_y94 (by omega) ?_
          have c : l = [] := List.length_eq_zero_iff.mp z
          subst c
          exact nx
        · refine mr_y94 (by omega) ?_
          rw [mr_a1n (fun x => z (by rw [x]; rfl)), if_pos y] at nx
          exact nx
        · refine mr_y94 (by omega) ?_
          rw [mr_a1n (fun x => z (by rw [x]; rfl)), if_neg y] at nx
          exact nx
      · rw [mr_vl_f (fun z => e (eR.symm.trans z))] at nx
        exact nm_r (nI_1 n) nx
    · have c' : mr_C sz vs yl yh n = false := Bool.eq_false_iff.mpr c
      rw [mr_vl_f (by rw [mr_RK_f c']; exact mr_m1 hk)] at nx
      refine br_t (by rw [c']; rfl) (nm_r (nI_1 n) nx)
theorem mr_yreduce {post : Int32 → SY → Prop} {k : Nat} (hm1 : 1 ≤ m) (hm16 : m ≤ 16) (hk : k < 16) (hr : r ≤ 4)
    (h : post (mr_fo r (mr_in r) (mr_vl (mr_RK (nI m) yl yh sz ks vs) (mr_W r yf yo vs) (nI k) 64)).1 (pt, nI m, yf, yo, yl, yh, ym, sz, ks, vs, fl, upd hs k (mr_bi (mr_hb (mr_vl (mr_RK (nI m) yl yh sz ks vs) (mr_W r yf yo vs) (nI k) 64))), rs)) : wpY_reduce post (pt, nI m, yf, yo, yl, yh, ym, sz, ks, vs, fl, hs, rs) (nI r) (nI k) := by
  have L := mr_y18 (post := post) (x1 := nI r) (k := k) (pt := pt) (yf := yf) (yo := yo) (yl := yl) (yh := yh) (ym := ym) (sz := sz) (ks := ks) (vs := vs) (fl := fl) (hs := hs) (rs := rs) hm1 hm16 hk ?_ 64 0 65 (by omega) (by omega)
  · exact Exists.intro 65 L
  · intro z ez
    have v : vp_in (nI k) 16 := vp_in_nI hk (by decide)
    have hc : (nI k).toNatClampNeg = k := nI_clamp (by omega)
    have hn : vp_nar .boolean z = z := by
      rw [ez]
      cases mr_hb (mr_vl (mr_RK (nI m) yl yh sz ks vs) (fun n => yf * vs n + yo) (nI k) 64) with
      | true => rfl
      | false => rfl
    rw [mr_hb_c (w := (fun n => yf * vs n + yo)), ← ez] at h
    refine And.intro v (nm_r (e' := upd hs k z) (by rw [hc, hn]) ?_)
    refine pk_eq r 0 (fun e => ?_) (fun e0 => pk_eq r 1 (fun e => ?_) (fun e1 => pk_eq r 2 (fun e => ?_) (fun e2 => pk_eq r 3 (fun e => ?_) (fun e3 => ?_))))
    · subst e
      exact h
    · subst e
      exact h
    · subst e
      exact h
    · subst e
      rw [mr_W_3, mr_tally (v := (fun n => yf * vs n + yo))] at h
      exact h
    · have e : r = 4 := by omega
      subst e
      exact h
end
end
section
/-! the reference's run -/
def mr_sm (F : Nat → Nat) : Nat → Nat
  | 0 => 0
  | n + 1 => mr_sm F n + F n
def mr_hh (T : Nat) (RK W : Nat → Int32) (k : Nat) : Bool := decide (T ≤ 6) && mr_hb (mr_vl RK W (nI k) 64)
def mr_rs (r : Nat) (RK W : Nat → Int32) (k : Nat) : Int32 := (mr_fo r (mr_in r) (mr_vl RK W (nI k) 64)).1
theorem mr_hh_t {T : Nat} {RK W : Nat → Int32} {k : Nat} (h : T ≤ 6) : mr_hh T RK W k = mr_hb (mr_vl RK W (nI k) 64) := by
  unfold mr_hh
  rw [decide_eq_true h, Bool.true_and]
theorem mr_hh_f {T : Nat} {RK W : Nat → Int32} {k : Nat} (h : ¬ T ≤ 6) : mr_hh T RK W k = false := by
  unfold mr_hh
  rw [decide_eq_false h, Bool.false_and]
section
variable {pt yd yf yo yl yh ym : Int32} {sz ks vs fl hs rs : Nat → Int32} {r m : Nat}
theorem mr_y120 {post : Int32 → SY → Prop} {J : Int32 → Int32 → Int32 → Int32 → Int32 → Int32 → Int32 → Int32 → Int32 → (Nat → Int32) → (Nat → Int32) → (Nat → Int32) → (Nat → Int32) → (Nat → Int32) → (Nat → Int32) → Prop} {k t : Nat} {b : Bool} {x1 x2 : Int32} (hk : k < 16) (e : hs k = mr_bi b)
    (h : J (nI (t + (if b = true then 1 else 0))) (nI (k + 1)) pt yd yf yo yl yh ym sz ks vs fl hs rs) : wY_run_120 post J x1 x2 (nI t) (nI k) pt yd yf yo yl yh ym sz ks vs fl hs rs := by
  have v : vp_in (nI k) 16 := vp_in_nI hk (by decide)
  have hc : (nI k).toNatClampNeg = k := nI_clamp (by omega)
  cases b with
  | true => exact And.intro v (br_f (by rw [hc, e]; decide) (nm_r (nI_1 t) (nm_r (nI_1 k) h)))
  | false => exact And.intro v (br_t (by rw [hc, e]; rfl) (nm_r (nI_1 k) h))
theorem mr_y85 {post : Int32 → SY → Prop} {T : Nat} (hT : T < 1000) (hm1 : 1 ≤ m) (hm16 : m ≤ 16) (hr : r ≤ 4)
    (C : ∀ hs' rs', (∀ i, i < 16 → hs' i = mr_bi (mr_hh T (mr_RK (nI m) yl yh sz ks vs) (mr_W r yf yo vs) i)) → (∀ i, i < 16 → rs' i = mr_rs r (mr_RK (nI m) yl yh sz ks vs) (mr_W r yf yo vs) i) → post (if T ≤ 6 then nI (mr_tc (mr_hh T (mr_RK (nI m) yl yh sz ks vs) (mr_W r yf yo vs)) 16) else -3) (pt, nI m, yf, yo, yl, yh, ym, sz, ks, vs, fl, hs', rs')) :
    ∀ (d k n : Nat) (hs rs : Nat → Int32), k + d = 16 → d < n → (∀ i, i < k → hs i = mr_bi (mr_hh T (mr_RK (nI m) yl yh sz ks vs) (mr_W r yf yo vs) i)) → (∀ i, i < k → rs i = mr_rs r (mr_RK (nI m) yl yh sz ks vs) (mr_W r yf yo vs) i) →
      wY_run_85 post (nI r) (nI T) n (nI (mr_tc (mr_hh T (mr_RK (nI m) yl yh sz ks vs) (mr_W r yf yo vs)) k)) (nI k) pt (nI m) yf yo yl yh ym sz ks vs fl hs rs := by
  intro d
  induction d with
  | zero =>
    intro k n hs rs hk hn h1 h2
    obtain ⟨n, rfl⟩ : ∃ k, n = k + 1 := ⟨n - 1, by omega⟩
    have e : k = 16 := by omega
    subst e
    have c := C hs rs h1 h2
    refine br_t (by decide) (pk_le T 6 (fun z => ?_) (fun z => ?_))
    · rw [if_pos z] at c
      exact c
    · rw [if_neg (by omega)] at c
      exact c
  | succ d ih =>
    intro k n hs rs hk hn h1 h2
    obtain ⟨n, rfl⟩ : ∃ k, n = k + 1 := ⟨n - 1, by omega⟩
    have v : vp_in (nI k) 16 := vp_in_nI (by omega) (by decide)
    have hc : (nI k).toNatClampNeg = k := nI_clamp (by omega)
    refine br_f (nI_ge (b := 16) (by omega) (by decide)) (mr_yreduce hm1 hm16 (by omega) hr ?_)
    refine And.intro v (nm_r (e' := upd rs k (mr_rs r (mr_RK (nI m) yl yh sz ks vs) (mr_W r yf yo vs) k)) (by rw [hc]; rfl) ?_)
    have go : ∀ hs', hs' k = mr_bi (mr_hh T (mr_RK (nI m) yl yh sz ks vs) (mr_W r yf yo vs) k) → (∀ i, i < k → hs' i = hs i) → wY_run_120 post (wY_run_85 post (nI r) (nI T) n) (nI r) (nI T) (nI (mr_tc (mr_hh T (mr_RK (nI m) yl yh sz ks vs) (mr_W r yf yo vs)) k)) (nI k) pt (nI m) yf yo yl yh ym sz ks vs fl hs' (upd rs k (mr_rs r (mr_RK (nI m) yl yh sz ks vs) (mr_W r yf yo vs) k)) := by
      intro hs' e1 e2
      refine mr_y120 (by omega) e1 (ih (k + 1) n hs' _ (by omega) (by omega) (lt_s (fun i hi => (e2 i hi).trans (h1 i hi)) e1) (lt_s (fun i hi => by rw [pk_un (by omega)]; exact h2 i hi) pk_us))
    refine pk_le T 6 (fun z => ?_) (fun z => ?_)
    · refine go _ ?_ (fun i hi => pk_un (by omega))
      rw [pk_us, mr_hh_t z]
    · refine And.intro v (nm_r (e' := upd (upd hs k (mr_bi (mr_hb (mr_vl (mr_RK (nI m) yl yh sz ks vs) (mr_W r yf yo vs) (nI k) 64)))) k 0) (by rw [hc]; rfl) (go _ ?_ (fun i hi => by rw [pk_un (by omega), pk_un (by omega)])))
      rw [pk_us, mr_hh_f (by omega)]
      rfl
theorem mr_y50 {post : Int32 → SY → Prop} {x1 x2 : Int32} (C : wY_run_85 post x1 x2 17 0 0 pt yd yf yo yl yh (nI (mr_mc (mr_C sz vs yl yh) 64)) sz ks vs fl hs rs) :
    ∀ d j n : Nat, j + d = 64 → d < n → wY_run_50 post x1 x2 pt yd yf yo yl yh sz ks vs fl hs rs n (nI j) (nI (mr_mc (mr_C sz vs yl yh) j)) := by
  intro d
  induction d with
  | zero =>
    intro j n hj hn
    obtain ⟨n, rfl⟩ : ∃ k, n = k + 1 := ⟨n - 1, by omega⟩
    have e : j = 64 := by omega
    subst e
    exact br_t (by decide) (Exists.intro 17 C)
  | succ d ih =>
    intro j n hj hn
    obtain ⟨n, rfl⟩ : ∃ k, n = k + 1 := ⟨n - 1, by omega⟩
    have nx := ih (j + 1) n (by omega) (by omega)
    refine br_f (nI_ge (b := 64) (by omega) (by decide)) (mr_ycounts (by omega) ?_)
    by_cases c : mr_C sz vs yl yh j = true
    · rw [mr_mc_t c] at nx
      exact br_f (by rw [c]; decide) (nm_r (nI_1 _) (nm_r (nI_1 j) nx))
    · have c' : mr_C sz vs yl yh j = false := Bool.eq_false_iff.mpr c
      rw [mr_mc_f c'] at nx
      exact br_t (by rw [c']; rfl) (nm_r (nI_1 j) nx)
theorem mr_y15 {post : Int32 → SY → Prop} {x1 : Int32} {F : Nat → Nat} (C : ∀ fl', (∀ i, i < 8 → fl' i = 0) → wY_run_50 post x1 (nI (mr_sm F 8)) pt yd yf yo yl yh sz ks vs fl' hs rs 65 0 0) :
    ∀ (d j n : Nat) (fl : Nat → Int32), j + d = 8 → d < n → (∀ i, i < j → fl i = 0) → (∀ i, j ≤ i → i < 8 → fl i = nI (F i)) → wY_run_15 post x1 pt yd yf yo yl yh ym n (nI (mr_sm F j)) (nI j) sz ks vs fl hs rs := by
  intro d
  induction d with
  | zero =>
    intro j n fl hj hn h1 h2
    obtain ⟨n, rfl⟩ : ∃ k, n = k + 1 := ⟨n - 1, by omega⟩
    have e : j = 8 := by omega
    subst e
    exact br_t (by decide) (Exists.intro 65 (C fl h1))
  | succ d ih =>
    intro j n fl hj hn h1 h2
    obtain ⟨n, rfl⟩ : ∃ k, n = k + 1 := ⟨n - 1, by omega⟩
    have v : vp_in (nI j) 8 := vp_in_nI (by omega) (by decide)
    have hc : (nI j).toNatClampNeg = j := nI_clamp (by omega)
    refine br_f (nI_ge (b := 8) (by omega) (by decide)) (And.intro v (nm_r (e' := nI (mr_sm F (j + 1))) (by rw [hc, h2 j (Nat.le_refl _) (by omega), nI_add]; rfl) (And.intro v (nm_r (e' := upd fl j 0) (by rw [hc]) (nm_r (nI_1 j) ?_)))))
    exact ih (j + 1) n _ (by omega) (by omega) (lt_s (fun i hi => by rw [pk_un (by omega)]; exact h1 i hi) pk_us) (fun i a b => by rw [pk_un (by omega)]; exact h2 i (by omega) b)
theorem mr_yrun {post : Int32 → SY → Prop} {F : Nat → Nat} (hT : mr_sm F 8 < 1000) (hm1 : 1 ≤ m) (hm16 : m ≤ 16) (hr : r ≤ 4) (hF : ∀ i, i < 8 → fl i = nI (F i))
    (C : ∀ fl' hs' rs', (∀ i, i < 8 → fl' i = 0) → (∀ i, i < 16 → hs' i = mr_bi (mr_hh (mr_sm F 8) (mr_RK (nI m) yl yh sz ks vs) (mr_W r yf yo vs) i)) → (∀ i, i < 16 → rs' i = mr_rs r (mr_RK (nI m) yl yh sz ks vs) (mr_W r yf yo vs) i) →
      post (if mr_sm F 8 ≤ 6 then nI (mr_tc (mr_hh (mr_sm F 8) (mr_RK (nI m) yl yh sz ks vs) (mr_W r yf yo vs)) 16) else -3) (pt, nI m, yf, yo, yl, yh, nI (mr_mc (mr_C sz vs yl yh) 64), sz, ks, vs, fl', hs', rs')) :
    wpY_run post (pt, nI m, yf, yo, yl, yh, ym, sz, ks, vs, fl, hs, rs) (nI r) := by
  refine br_f (nI_pos (by omega)) (br_t (nI_le (b := 4) hr (by decide)) (Exists.intro 9 ?_))
  refine mr_y15 (F := F) ?_ 8 0 9 fl (by omega) (by omega) (fun i hi => absurd hi (Nat.not_lt_zero i)) (fun i _ hi => hF i hi)
  intro fl' h0
  refine mr_y50 (yd := nI m) ?_ 64 0 65 (by omega) (by omega)
  exact mr_y85 hT hm1 hm16 hr (fun hs' rs' h1 h2 => C fl' hs' rs' h0 h1 h2) 16 0 17 hs rs (by omega) (by omega) (fun i hi => absurd hi (Nat.not_lt_zero i)) (fun i hi => absurd hi (Nat.not_lt_zero i))
end
end
section
/-! the component's run -/
theorem mr_sm8 (F : Nat → Nat) : mr_sm (fun i => F i + F (4 + i)) 4 = mr_sm F 8 := by
  show 0 + (F 0 + F 4) + (F 1 + F 5) + (F 2 + F 6) + (F 3 + F 7) = 0 + F 0 + F 1 + F 2 + F 3 + F 4 + F 5 + F 6 + F 7
  omega
def mr_OT (h : Nat → Bool) (p n : Nat) (res : Nat → Int32) (ok ov : Nat → Int32) : Prop := ∀ k, k < 16 → h k = true → k % p < n → ok (mr_OS h p (k % p) + mr_cn h p (k % p) k) = nI k ∧ ov (mr_OS h p (k % p) + mr_cn h p (k % p) k) = res k
theorem mr_OT_s {h : Nat → Bool} {p q : Nat} {res ok ov ok' ov' : Nat → Int32} (u : mr_OT h p q res ok ov) (a : mr_OU h p q (mr_OS h p q) 16 res ok' ov') (b : mr_PR (mr_OS h p q) ok ov ok' ov') : mr_OT h p (q + 1) res ok' ov' := by
  intro k hk h1 h2
  by_cases e : k % p = q
  · rw [e]
    exact a k hk h1 e
  · have m1 := mr_cn_x h1 (rfl : k % p = k % p) hk
    have m2 := mr_OS_m (h := h) (p := p) (show k % p + 1 ≤ q by omega)
    rw [mr_OS_s] at m2
    obtain ⟨b1, b2⟩ := b (mr_OS h p (k % p) + mr_cn h p (k % p) k) (by omega)
    rw [b1, b2]
    exact u k hk h1 (by omega)
theorem mr_OT_e {h : Nat → Bool} {p q : Nat} {res ok ov : Nat → Int32} (u : mr_OT h p q res ok ov) (g : ∀ k, k < 16 → h k = true → k % p = q → False) : mr_OT h p (q + 1) res ok ov := by
  intro k hk h1 h2
  by_cases e : k % p = q
  · exact (g k hk h1 e).elim
  · exact u k hk h1 (by omega)
section
variable {pc bz md fa fo lw hg rd bu mp sc se oe : Int32} {rc rk rv mf rf bk bv sk sv ps hd lm os ok ov : Nat → Int32} {p r bs m : Nat}
theorem mr_ftc4 {post : Int32 → Prop} {F : Nat → Nat} (h1 : ∀ j, j < 4 → mf j = nI (F j) ∧ rf j = nI (F (4 + j))) (C : post (nI (mr_sm (fun i => F i + F (4 + i)) 4))) :
    ∀ d j n : Nat, j + d = 4 → d < n → wX_failuresToCome_4 post pc bz md fa fo lw hg rd bu mp sc se oe rc rk rv mf rf bk bv sk sv ps hd lm os ok ov n (nI (mr_sm (fun i => F i + F (4 + i)) j)) (nI j) := by
  intro d
  induction d with
  | zero =>
    intro j n hj hn
    obtain ⟨n, rfl⟩ : ∃ k, n = k + 1 := ⟨n - 1, by omega⟩
    have e : j = 4 := by omega
    subst e
    exact br_t (by decide) C
  | succ d ih =>
    intro j n hj hn
    obtain ⟨n, rfl⟩ : ∃ k, n = k + 1 := ⟨n - 1, by omega⟩
    have v : vp_in (nI j) 4 := vp_in_nI (by omega) (by decide)
    have hc : (nI j).toNatClampNeg = j := nI_clamp (by omega)
    obtain ⟨a, b⟩ := h1 j (by omega)
    refine br_f (nI_ge (b := 4) (by omega) (by decide)) (And.intro v (And.intro v (nm_r (e' := nI (mr_sm (fun i => F i + F (4 + i)) (j + 1))) (by rw [hc, a, b, nI_add, nI_add]; rfl) (nm_r (nI_1 j) ?_))))
    exact ih (j + 1) n (by omega) (by omega)
theorem mr_ftc {post : Int32 → Prop} {F : Nat → Nat} (h1 : ∀ j, j < 4 → mf j = nI (F j) ∧ rf j = nI (F (4 + j))) (C : post (nI (mr_sm F 8))) : wpX_failuresToCome post (pc, bz, md, fa, fo, lw, hg, rd, bu, mp, sc, se, oe, rc, rk, rv, mf, rf, bk, bv, sk, sv, ps, hd, lm, os, ok, ov) := by
  rw [← mr_sm8] at C
  exact Exists.intro 5 (mr_ftc4 h1 C 4 0 5 (by omega) (by omega))
theorem mr_x104 {post : Int32 → SX → Prop} {J : Int32 → Int32 → Int32 → Int32 → Int32 → Int32 → Int32 → Int32 → Int32 → Int32 → Int32 → Int32 → Int32 → Int32 → (Nat → Int32) → (Nat → Int32) → (Nat → Int32) → (Nat → Int32) → (Nat → Int32) → (Nat → Int32) → (Nat → Int32) → (Nat → Int32) → (Nat → Int32) → (Nat → Int32) → (Nat → Int32) → (Nat → Int32) → (Nat → Int32) → (Nat → Int32) → (Nat → Int32) → Prop} {q : Nat} {x2 : Int32} (hq : q < 4) (h : J (nI (q + 1)) pc bz md fa fo lw hg rd bu mp sc se oe rc rk rv (upd mf q 0) (upd rf q 0) bk bv sk sv ps hd lm os ok ov) : wX_run_104 post J x2 (nI q) pc bz md fa fo lw hg rd bu mp sc se oe rc rk rv mf rf bk bv sk sv ps hd lm os ok ov := by
  have v : vp_in (nI q) 4 := vp_in_nI hq (by decide)
  have hc : (nI q).toNatClampNeg = q := nI_clamp (by omega)
  have h0 : vp_nar .byte 0 = 0 := mr_nb (q := 0) (by decide)
  exact And.intro v (nm_r (e' := upd mf q 0) (by rw [hc, h0]) (And.intro v (nm_r (e' := upd rf q 0) (by rw [hc, h0]) (nm_r (nI_1 q) h))))
theorem mr_x71 {post : Int32 → SX → Prop} {spc spe : Nat} {P : Nat → Nat → Nat} {h : Nat → Bool} {gu : Bool} (hp : 1 ≤ p) (hp4 : p ≤ 4) (hr : r ≤ 4) (hsc : spc ≤ 32) (hse : spe ≤ 64) (hSF : mr_SF P p spc spe sk ps) (hR : mr_R sk spe)
    (hgg : gu = true → ∀ k, h k = false) (hh : gu = false → ∀ k, k < 16 → (h k = true ↔ ∃ j, j < spe ∧ sk j = nI k))
    (C : ∀ mf' rf' hd' lm' os' ok' ov', (∀ j, j < 4 → mf' j = 0 ∧ rf' j = 0) → (∀ j, j ≤ 4 → os' j = nI (mr_OS h p j)) → mr_OT h p 4 (fun k => (mr_sx r sk sv k spe).1) ok' ov' →
      post (if gu = true then -3 else nI (mr_OS h p 4)) (nI p, bz, md, fa, fo, lw, hg, nI r, bu, mp, nI spc, se, nI (mr_OS h p 4), rc, rk, rv, mf', rf', bk, bv, sk, sv, ps, hd', lm', os', ok', ov')) :
    ∀ (d q n : Nat) (mf rf hd lm os ok ov : Nat → Int32), q + d = 4 → d < n → (∀ j, j < q → mf j = 0 ∧ rf j = 0) → (∀ j, q ≤ j → j < 4 → ∃ f, f ≤ 3 ∧ rf j = nI f) → (∀ j, j < q → os j = nI (mr_OS h p j)) → mr_OT h p q (fun k => (mr_sx r sk sv k spe).1) ok ov →
      wX_run_71 post (mr_bi gu) n (nI q) (nI p) bz md fa fo lw hg (nI r) bu mp (nI spc) se (nI (mr_OS h p q)) rc rk rv mf rf bk bv sk sv ps hd lm os ok ov := by
  intro d
  induction d with
  | zero =>
    intro q n mf rf hd lm os ok ov hq hn h1 h2 h3 h4
    obtain ⟨n, rfl⟩ : ∃ k, n = k + 1 := ⟨n - 1, by omega⟩
    have e : q = 4 := by omega
    subst e
    have h16 := mr_OS_16 (h := h) hp hp4 (show 4 ≤ 4 by omega)
    have c := C mf rf hd lm (upd os 4 (nI (mr_OS h p 4))) ok ov h1 (fun j hj => by
      by_cases z : j = 4
      · subst z; exact pk_us
      · rw [pk_un z]; exact h3 j (by omega)) h4
    refine br_t (by decide) (nm_r (e' := upd os 4 (nI (mr_OS h p 4))) (by rw [mr_nb8 (by omega)]) ?_)
    cases gu with
    | true => exact br_f (by decide) c
    | false => exact br_t rfl c
  | succ d ih =>
    intro q n mf rf hd lm os ok ov hq hn h1 h2 h3 h4
    obtain ⟨n, rfl⟩ : ∃ k, n = k + 1 := ⟨n - 1, by omega⟩
    have hq4 : q < 4 := by omega
    have h16 := mr_OS_16 (h := h) (q := q) hp hp4 (by omega)
    have h17 := mr_OS_16 (h := h) (q := q + 1) hp hp4 (by omega)
    have v : vp_in (nI q) 5 := vp_in_nI (by omega) (by decide)
    have hc : (nI q).toNatClampNeg = q := nI_clamp (by omega)
    have hos : ∀ j, j < q + 1 → upd os q (nI (mr_OS h p q)) j = nI (mr_OS h p j) := lt_s (fun j hj => by rw [pk_un (by omega)]; exact h3 j hj) pk_us
    have go : ∀ hd' lm' ok' ov', mr_OT h p (q + 1) (fun k => (mr_sx r sk sv k spe).1) ok' ov' → wX_run_104 post (wX_run_71 post (mr_bi gu) n) (mr_bi gu) (nI q) (nI p) bz md fa fo lw hg (nI r) bu mp (nI spc) se (nI (mr_OS h p (q + 1))) rc rk rv mf rf bk bv sk sv ps hd' lm' (upd os q (nI (mr_OS h p q))) ok' ov' := by
      intro hd' lm' ok' ov' hO
      refine mr_x104 hq4 (ih (q + 1) n _ _ hd' lm' _ ok' ov' (by omega) (by omega) (lt_s (fun j hj => ?_) ⟨pk_us, pk_us⟩) (fun j a b => ?_) hos hO)
      · rw [pk_un (by omega), pk_un (by omega)]
        exact h1 j hj
      · rw [pk_un (by omega)]
        exact h2 j (by omega) b
    have em : (∀ k, k < 16 → h k = true → k % p = q → False) → mr_OS h p (q + 1) = mr_OS h p q := fun g => by
      rw [mr_OS_s, mr_cn_g (m := 0) (Nat.zero_le _) (fun j _ a b c => g j a b c)]
      rfl
    refine br_f (nI_ge (b := 4) (by omega) (by decide)) (And.intro v (nm_r (e' := upd os q (nI (mr_OS h p q))) (by rw [hc, mr_nb8 (by omega)]) ?_))
    cases gu with
    | true =>
      have g : ∀ k, k < 16 → h k = true → k % p = q → False := fun k _ a _ => by rw [hgg rfl k] at a; cases a
      have := go hd lm ok ov (mr_OT_e h4 g)
      rw [em g] at this
      exact br_f (by decide) this
    | false =>
      refine br_t rfl (pk_le p q (fun z => ?_) (fun z => ?_))
      · have g : ∀ k, k < 16 → h k = true → k % p = q → False := fun k _ _ b => by
          have := Nat.mod_lt k (show p > 0 by omega)
          omega
        have := go hd lm ok ov (mr_OT_e h4 g)
        rw [em g] at this
        exact this
      · obtain ⟨f, hf, ef⟩ := h2 q (Nat.le_refl _) hq4
        refine mr_rpart (h := h) hr hq4 hsc hse (by rw [← mr_OS_s]; exact h17) hSF hR (hh rfl) hf ef ?_
        intro hd' lm' ok' ov' a b
        exact go hd' lm' ok' ov' (mr_OT_s h4 a b)
theorem mr_x48 {post : Int32 → SX → Prop} {x2 : Int32} (hp : 1 ≤ p) (hp4 : p ≤ 4) (hr : r ≤ 4) (hbs : 2 ≤ bs) (hbs8 : bs ≤ 8) (hm1 : 1 ≤ m) (hm16 : m ≤ 16) (hrc : ∀ j, j < 4 → ∃ c, c ≤ 16 ∧ rc j = nI c) (hmf : ∀ j, j < 4 → ∃ f, f ≤ 3 ∧ mf j = nI f)
    (C : ∀ (bu : Int32) spc spe bk' bv' sk' sv' ps', mr_MC p r (mr_RK (nI m) lw hg rc rk rv) (mr_W r fa fo rv) spc spe 0 64 bk' bv' sk' sv' ps' → spc ≤ 32 → spe ≤ 64 →
      wX_run_71 post x2 5 0 (nI p) (nI bs) (nI m) fa fo lw hg (nI r) bu (nI (mr_mc (mr_C rc rv lw hg) 64)) (nI spc) (nI spe) 0 rc rk rv mf rf bk' bv' sk' sv' ps' hd lm os ok ov) :
    ∀ (d s n spc spe : Nat) (bu : Int32) (bk bv sk sv ps : Nat → Int32), s + d = 4 → d < n → mr_MC p r (mr_RK (nI m) lw hg rc rk rv) (mr_W r fa fo rv) spc spe 0 (16 * s) bk bv sk sv ps → 2 * spc ≤ 16 * s → spe ≤ 16 * s →
      wX_run_48 post x2 n (nI s) (nI p) (nI bs) (nI m) fa fo lw hg (nI r) bu (nI (mr_mc (mr_C rc rv lw hg) (16 * s))) (nI spc) (nI spe) oe rc rk rv mf rf bk bv sk sv ps hd lm os ok ov := by
  intro d
  induction d with
  | zero =>
    intro s n spc spe bu bk bv sk sv ps hs hn h h1 h2
    obtain ⟨n, rfl⟩ : ∃ k, n = k + 1 := ⟨n - 1, by omega⟩
    have e : s = 4 := by omega
    subst e
    exact br_t (by decide) (Exists.intro 5 (C bu spc spe bk bv sk sv ps h (by omega) (by omega)))
  | succ d ih =>
    intro s n spc spe bu bk bv sk sv ps hs hn h h1 h2
    obtain ⟨n, rfl⟩ : ∃ k, n = k + 1 := ⟨n - 1, by omega⟩
    obtain ⟨ct, c1, c2⟩ := hrc s (by omega)
    obtain ⟨f, f1, f2⟩ := hmf s (by omega)
    refine br_f (nI_ge (b := 4) (by omega) (by decide)) (mr_msplit hp hp4 hr hbs hbs8 hm1 hm16 (by omega) c1 c2 f1 f2 h h1 h2 ?_)
    intro spc' spe' bk' bv' sk' sv' ps' k1 k2 k3
    exact nm_r (nI_1 s) (ih (s + 1) n spc' spe' 0 bk' bv' sk' sv' ps' (by omega) (by omega) k1 k2 k3)
theorem mr_x30 {post : Int32 → SX → Prop} {T : Nat} {gu : Bool} (hgu : gu = true ↔ ¬ T ≤ 6) (hp : 1 ≤ p) (hp4 : p ≤ 4) (hr : r ≤ 4) (hbs : 2 ≤ bs) (hbs8 : bs ≤ 8) (hm1 : 1 ≤ m) (hm16 : m ≤ 16) (hrc : ∀ j, j < 4 → ∃ c, c ≤ 16 ∧ rc j = nI c) (hmf : ∀ j, j < 4 → ∃ f, f ≤ 3 ∧ mf j = nI f) (hrf : ∀ j, j < 4 → ∃ f, f ≤ 3 ∧ rf j = nI f)
    (C : ∀ (bu sc se : Int32) mf' rf' bk' bv' sk' sv' ps' hd' lm' os' ok' ov', (∀ j, j < 4 → mf' j = 0 ∧ rf' j = 0) → (∀ j, j ≤ 4 → os' j = nI (mr_OS (mr_hh T (mr_RK (nI m) lw hg rc rk rv) (mr_W r fa fo rv)) p j)) → mr_OT (mr_hh T (mr_RK (nI m) lw hg rc rk rv) (mr_W r fa fo rv)) p 4 (mr_rs r (mr_RK (nI m) lw hg rc rk rv) (mr_W r fa fo rv)) ok' ov' →
      post (if gu = true then -3 else nI (mr_OS (mr_hh T (mr_RK (nI m) lw hg rc rk rv) (mr_W r fa fo rv)) p 4)) (nI p, nI bs, nI m, fa, fo, lw, hg, nI r, bu, nI (mr_mc (mr_C rc rv lw hg) 64), sc, se, nI (mr_OS (mr_hh T (mr_RK (nI m) lw hg rc rk rv) (mr_W r fa fo rv)) p 4), rc, rk, rv, mf', rf', bk', bv', sk', sv', ps', hd', lm', os', ok', ov')) :
    wX_run_30 post (mr_bi gu) (nI p) (nI bs) (nI m) fa fo lw hg (nI r) bu mp sc se oe rc rk rv mf rf bk bv sk sv ps hd lm os ok ov := by
  refine Exists.intro 5 (mr_x48 hp hp4 hr hbs hbs8 hm1 hm16 hrc hmf ?_ 4 0 5 0 0 bu bk bv sk sv ps (by omega) (by omega) ?_ (by omega) (by omega))
  · intro bu' spc spe bk' bv' sk' sv' ps' hM hsc hse
    obtain ⟨⟨P, hP⟩, hR, _, hE⟩ := hM
    have hE' : ∀ k, k < 16 → mr_EQ r (mr_vl sk' sv' (nI k) spe) (mr_vl (mr_RK (nI m) lw hg rc rk rv) (mr_W r fa fo rv) (nI k) 64) := fun k hk => by
      have := hE k hk
      rw [show mr_vl bk' bv' (nI k) 0 = [] from rfl, List.append_nil] at this
      exact this
    refine mr_x71 (h := mr_hh T (mr_RK (nI m) lw hg rc rk rv) (mr_W r fa fo rv)) (gu := gu) hp hp4 hr hsc hse hP hR ?_ ?_ ?_ 4 0 5 mf rf hd lm os ok ov (by omega) (by omega) (fun j hj => absurd hj (Nat.not_lt_zero j)) (fun j _ hj => hrf j hj) (fun j hj => absurd hj (Nat.not_lt_zero j)) (fun k _ _ hk => absurd hk (Nat.not_lt_zero _))
    · intro g k
      exact mr_hh_f (hgu.mp g)
    · intro g k hk
      have hT : T ≤ 6 := by
        by_cases z : T ≤ 6
        · exact z
        · rw [hgu.mpr z] at g; cases g
      rw [mr_hh_t hT, mr_hb_i]
      constructor
      · intro z
        exact mr_vl_ne (v := sv') (fun y => z (mr_EQ_nil (hE' k hk) y))
      · intro z y
        obtain ⟨j, hj, e⟩ := z
        exact mr_vl_mem (v := sv') hj e (mr_EQ_nil (mr_EQ_sy (hE' k hk)) y)
    · intro mf' rf' hd' lm' os' ok' ov' a b c
      refine C bu' (nI spc) (nI spe) mf' rf' bk' bv' sk' sv' ps' hd' lm' os' ok' ov' a b ?_
      intro k hk h1 h2
      obtain ⟨c1, c2⟩ := c k hk h1 h2
      refine ⟨c1, c2.trans ?_⟩
      show (mr_fo r (mr_in r) (mr_vl sk' sv' (nI k) spe)).1 = (mr_fo r (mr_in r) (mr_vl (mr_RK (nI m) lw hg rc rk rv) (mr_W r fa fo rv) (nI k) 64)).1
      rw [hE' k hk]
  · exact ⟨⟨_, mr_SF_0⟩, fun j hj => absurd hj (Nat.not_lt_zero j), fun j hj => absurd hj (Nat.not_lt_zero j), fun q _ => mr_EQ_rf r _⟩
theorem mr_xrun {post : Int32 → SX → Prop} {F : Nat → Nat} (hT : mr_sm F 8 < 1000) (hp : 1 ≤ p) (hp4 : p ≤ 4) (hr : r ≤ 4) (hbs : 2 ≤ bs) (hbs8 : bs ≤ 8) (hm1 : 1 ≤ m) (hm16 : m ≤ 16) (hrc : ∀ j, j < 4 → ∃ c, c ≤ 16 ∧ rc j = nI c)
    (hF : ∀ j, j < 4 → F j ≤ 3 ∧ F (4 + j) ≤ 3 ∧ mf j = nI (F j) ∧ rf j = nI (F (4 + j)))
    (C : ∀ (bu sc se : Int32) mf' rf' bk' bv' sk' sv' ps' hd' lm' os' ok' ov', (∀ j, j < 4 → mf' j = 0 ∧ rf' j = 0) → (∀ j, j ≤ 4 → os' j = nI (mr_OS (mr_hh (mr_sm F 8) (mr_RK (nI m) lw hg rc rk rv) (mr_W r fa fo rv)) p j)) → mr_OT (mr_hh (mr_sm F 8) (mr_RK (nI m) lw hg rc rk rv) (mr_W r fa fo rv)) p 4 (mr_rs r (mr_RK (nI m) lw hg rc rk rv) (mr_W r fa fo rv)) ok' ov' →
      post (if mr_sm F 8 ≤ 6 then nI (mr_OS (mr_hh (mr_sm F 8) (mr_RK (nI m) lw hg rc rk rv) (mr_W r fa fo rv)) p 4) else -3) (nI p, nI bs, nI m, fa, fo, lw, hg, nI r, bu, nI (mr_mc (mr_C rc rv lw hg) 64), sc, se, nI (mr_OS (mr_hh (mr_sm F 8) (mr_RK (nI m) lw hg rc rk rv) (mr_W r fa fo rv)) p 4), rc, rk, rv, mf', rf', bk', bv', sk', sv', ps', hd', lm', os', ok', ov')) :
    wpX_run post (nI p, nI bs, nI m, fa, fo, lw, hg, rd, bu, mp, sc, se, oe, rc, rk, rv, mf, rf, bk, bv, sk, sv, ps, hd, lm, os, ok, ov) (nI r) := by
  have hmf : ∀ j, j < 4 → ∃ f, f ≤ 3 ∧ mf j = nI f := fun j hj => ⟨F j, (hF j hj).1, (hF j hj).2.2.1⟩
  have hrf : ∀ j, j < 4 → ∃ f, f ≤ 3 ∧ rf j = nI f := fun j hj => ⟨F (4 + j), (hF j hj).2.1, (hF j hj).2.2.2⟩
  refine br_f (nI_pos (by omega)) (br_t (nI_le (b := 4) hr (by decide)) (mr_ftc (fun j hj => (hF j hj).2.2) (pk_le (mr_sm F 8) 6 (fun z => ?_) (fun z => ?_))))
  · refine mr_x30 (T := mr_sm F 8) (gu := false) ⟨fun y => absurd y (by decide), fun y => absurd z y⟩ hp hp4 hr hbs hbs8 hm1 hm16 hrc hmf hrf ?_
    intro bu' sc' se' mf' rf' bk' bv' sk' sv' ps' hd' lm' os' ok' ov' a1 a2 a3
    have c := C bu' sc' se' mf' rf' bk' bv' sk' sv' ps' hd' lm' os' ok' ov' a1 a2 a3
    rw [if_pos z] at c
    exact c
  · refine mr_x30 (T := mr_sm F 8) (gu := true) ⟨fun _ => by omega, fun _ => rfl⟩ hp hp4 hr hbs hbs8 hm1 hm16 hrc hmf hrf ?_
    intro bu' sc' se' mf' rf' bk' bv' sk' sv' ps' hd' lm' os' ok' ov' a1 a2 a3
    have c := C bu' sc' se' mf' rf' bk' bv' sk' sv' ps' hd' lm' os' ok' ov' a1 a2 a3
    rw [if_neg (by omega)] at c
    exact c
end
end
section
/-! the relation, its opening and its making -/
def mr_FF (F : Nat → Nat) (mf rf fl : Nat → Int32) : Prop := ∀ j, j < 4 → F j ≤ 3 ∧ F (4 + j) ≤ 3 ∧ mf j = nI (F j) ∧ rf j = nI (F (4 + j)) ∧ fl j = nI (F j) ∧ fl (4 + j) = nI (F (4 + j))
def mr_O (h : Nat → Bool) (p : Nat) (os ok ov hs rs : Nat → Int32) : Prop :=
  (∀ q, q ≤ 4 → os q = nI (mr_OS h p q)) ∧ (∀ k, k < 16 → hs k = mr_bi (h k)) ∧ ∀ k, k < 16 → h k = true → ok (mr_OS h p (k % p) + mr_cn h p (k % p) k) = nI k ∧ ov (mr_OS h p (k % p) + mr_cn h p (k % p) k) = rs k
def mr_F (pc bz md fa fo lw hg mp oe : Int32) (rc rk rv mf rf os ok ov : Nat → Int32) (pt yd yf yo yl yh ym : Int32) (sz ks vs fl hs rs : Nat → Int32) : Prop :=
  ∃ (p bs m : Nat) (h : Nat → Bool) (F : Nat → Nat), (1 ≤ p ∧ p ≤ 4 ∧ 2 ≤ bs ∧ bs ≤ 8 ∧ 1 ≤ m ∧ m ≤ 16) ∧ (pc = nI p ∧ bz = nI bs ∧ md = nI m ∧ oe = nI (mr_OS h p 4)) ∧ (pt = nI p ∧ yd = nI m ∧ yf = fa ∧ yo = fo ∧ yl = lw ∧ yh = hg ∧ ym = mp) ∧ (sz = rc ∧ ks = rk ∧ vs = rv) ∧ (∀ j, j < 4 → ∃ c, c ≤ 16 ∧ rc j = nI c) ∧ mr_FF F mf rf fl ∧ mr_O h p os ok ov hs rs
/-- the relation: equal settings and records, equal failures to come, the output by key and its places -/
def i_Rel (k : Nat) (u : SX) (v : SY) : Prop := match u, v with
  | (pc, bz, md, fa, fo, lw, hg, rd, bu, mp, sc, se, oe, rc, rk, rv, mf, rf, bk, bv, sk, sv, ps, hd, lm, os, ok, ov), (pt, yd, yf, yo, yl, yh, ym, sz, ks, vs, fl, hs, rs) => mr_F pc bz md fa fo lw hg mp oe rc rk rv mf rf os ok ov pt yd yf yo yl yh ym sz ks vs fl hs rs
theorem i_up {k : Nat} {u : SX} {v : SY} (h : i_Rel k u v) : i_Rel (k + 4) u v := h
theorem mr_el {Q : SX → SY → Prop} {k : Nat} {u : SX} {v : SY} (I : i_Rel k u v)
    (H : ∀ (p bs m : Nat) (h : Nat → Bool) (F : Nat → Nat) (fa fo lw hg rd bu mp sc se : Int32) (rc rk rv mf rf bk bv sk sv ps hd lm os ok ov fl hs rs : Nat → Int32), 1 ≤ p → p ≤ 4 → 2 ≤ bs → bs ≤ 8 → 1 ≤ m → m ≤ 16 → (∀ j, j < 4 → ∃ c, c ≤ 16 ∧ rc j = nI c) → mr_FF F mf rf fl → mr_O h p os ok ov hs rs →
      Q (nI p, nI bs, nI m, fa, fo, lw, hg, rd, bu, mp, sc, se, nI (mr_OS h p 4), rc, rk, rv, mf, rf, bk, bv, sk, sv, ps, hd, lm, os, ok, ov) (nI p, nI m, fa, fo, lw, hg, mp, rc, rk, rv, fl, hs, rs)) : Q u v := by
  obtain ⟨pc, bz, md, fa, fo, lw, hg, rd, bu, mp, sc, se, oe, rc, rk, rv, mf, rf, bk, bv, sk, sv, ps, hd, lm, os, ok, ov⟩ := u
  obtain ⟨pt, yd, yf, yo, yl, yh, ym, sz, ks, vs, fl, hs, rs⟩ := v
  obtain ⟨p, bs, m, h, F, ⟨a1, a2, a3, a4, a5, a6⟩, ⟨e1, e2, e3, e4⟩, ⟨f1, f2, f3, f4, f5, f6, f7⟩, ⟨g1, g2, g3⟩, b1, b2, b3⟩ := (I : mr_F pc bz md fa fo lw hg mp oe rc rk rv mf rf os ok ov pt yd yf yo yl yh ym sz ks vs fl hs rs)
  subst e1 e2 e3 e4 f1 f2 f3 f4 f5 f6 f7 g1 g2 g3
  exact H p bs m h F _ _ _ _ _ _ _ _ _ _ _ _ _ _ _ _ _ _ _ _ _ _ _ _ _ _ _ a1 a2 a3 a4 a5 a6 b1 b2 b3
section
variable {pc bz md fa fo lw hg rd bu mp sc se oe : Int32} {rc rk rv mf rf bk bv sk sv ps hd lm os ok ov : Nat → Int32} {fl hs rs : Nat → Int32} {p bs m : Nat} {h : Nat → Bool} {F : Nat → Nat}
theorem mr_mk {k : Nat} (a1 : 1 ≤ p) (a2 : p ≤ 4) (a3 : 2 ≤ bs) (a4 : bs ≤ 8) (a5 : 1 ≤ m) (a6 : m ≤ 16) (b1 : ∀ j, j < 4 → ∃ c, c ≤ 16 ∧ rc j = nI c) (b2 : mr_FF F mf rf fl) (b3 : mr_O h p os ok ov hs rs) (e : oe = nI (mr_OS h p 4)) :
    i_Rel k (nI p, nI bs, nI m, fa, fo, lw, hg, rd, bu, mp, sc, se, oe, rc, rk, rv, mf, rf, bk, bv, sk, sv, ps, hd, lm, os, ok, ov) (nI p, nI m, fa, fo, lw, hg, mp, rc, rk, rv, fl, hs, rs) :=
  ⟨p, bs, m, h, F, ⟨a1, a2, a3, a4, a5, a6⟩, ⟨rfl, rfl, rfl, e⟩, ⟨rfl, rfl, rfl, rfl, rfl, rfl, rfl⟩, ⟨rfl, rfl, rfl⟩, b1, b2, b3⟩
theorem mr_i141 {post : SX → Prop} {x2 z0 : Int32} (C : ∀ n, 2 ≤ n → n ≤ 8 → post (z0, nI n, 16, 1, fo, (-2147483648), 2147483647, rd, bu, mp, sc, se, oe, rc, rk, rv, mf, rf, bk, bv, sk, sv, ps, hd, lm, os, ok, ov)) : wX_init_141 post x2 z0 pc bz md fa fo lw hg rd bu mp sc se oe rc rk rv mf rf bk bv sk sv ps hd lm os ok ov := by
  refine br_c (fun a => br_c (fun b => ?_) (fun b => C 8 (by omega) (by omega))) (fun a => C 2 (by omega) (by omega))
  obtain ⟨n, hn, e⟩ := nI_of2 (x := x2) (M := 8) (n := 8) (by decide) (by
    rw [Int32.lt_iff_toInt_lt]
    rw [Int32.le_iff_toInt_le] at a
    have h2 : (2 : Int32).toInt = 2 := by decide
    have h0 : (0 : Int32).toInt = 0 := by decide
    omega) b
  subst e
  have h2 : 2 ≤ n := (nI_leI (a := 2) (by omega) (by omega)).mp a
  exact C n h2 hn
theorem mr_zero {k : Nat} (a1 : 1 ≤ p) (a2 : p ≤ 4) (a3 : 2 ≤ bs) (a4 : bs ≤ 8) :
    i_Rel k (nI p, nI bs, 16, 1, 0, (-2147483648), 2147483647, 0, 0, 0, 0, 0, 0, (fun _ => 0), (fun _ => 0), (fun _ => 0), (fun _ => 0), (fun _ => 0), (fun _ => 0), (fun _ => 0), (fun _ => 0), (fun _ => 0), (fun _ => 0), (fun _ => 0), (fun _ => 0), (fun _ => 0), (fun _ => 0), (fun _ => 0)) (nI p, 16, 1, 0, (-2147483648), 2147483647, 0, (fun _ => 0), (fun _ => 0), (fun _ => 0), (fun _ => 0), (fun _ => 0), (fun _ => 0)) := by
  refine mr_mk (m := 16) (h := fun _ => false) (F := fun _ => 0) a1 a2 a3 a4 (by omega) (by omega) (fun j _ => ⟨0, by omega, rfl⟩) (fun j _ => ⟨Nat.zero_le _, Nat.zero_le _, rfl, rfl, rfl, rfl⟩) ⟨fun q _ => by rw [mr_OS_F]; rfl, fun k _ => rfl, fun k _ z => by cases z⟩ (by rw [mr_OS_F]; rfl)
theorem i_vc0 (k0 : Int32) (k1 : Int32) : wpX_init (fun u => wpY_init (fun v => i_Rel 2 u v) k0 k1) k0 k1 := by
  refine br_c (fun a => br_c (fun b => ?_) (fun b => ?_)) (fun a => ?_)
  · obtain ⟨n, hn, e⟩ := nI_of2 (x := k0) (M := 4) (n := 4) (by decide) (by
      rw [Int32.lt_iff_toInt_lt]
      rw [Int32.le_iff_toInt_le] at a
      have h2 : (1 : Int32).toInt = 1 := by decide
      have h0 : (0 : Int32).toInt = 0 := by decide
      omega) b
    subst e
    have h1 : 1 ≤ n := (nI_leI (a := 1) (by omega) (by omega)).mp a
    refine mr_i141 (fun c c1 c2 => ?_)
    exact br_t a (br_t b (mr_zero h1 hn c1 c2))
  · refine mr_i141 (fun c c1 c2 => ?_)
    exact br_t a (br_f b (mr_zero (p := 4) (by omega) (by omega) c1 c2))
  · refine mr_i141 (fun c c1 c2 => ?_)
    exact br_f a (mr_zero (p := 1) (by omega) (by omega) c1 c2)
end
end
section
/-! addRecord, mapping, bounds, failures, mapped, emptySplit, run -/
section
variable {pc bz md fa fo lw hg rd bu mp sc se oe : Int32} {rc rk rv mf rf bk bv sk sv ps hd lm os ok ov : Nat → Int32} {pt yd yf yo yl yh ym : Int32} {sz ks vs fl hs rs : Nat → Int32}
theorem mr_xadd {post : Int32 → SX → Prop} {s c : Nat} {x y : Int32} (h4 : s < 4) (hc : c < 16) (e : rc s = nI c) (h : post (nI (c + 1)) (pc, bz, md, fa, fo, lw, hg, rd, bu, mp, sc, se, oe, upd rc s (nI (c + 1)), upd rk (16 * s + c) x, upd rv (16 * s + c) y, mf, rf, bk, bv, sk, sv, ps, hd, lm, os, ok, ov)) : wpX_addRecord post (pc, bz, md, fa, fo, lw, hg, rd, bu, mp, sc, se, oe, rc, rk, rv, mf, rf, bk, bv, sk, sv, ps, hd, lm, os, ok, ov) (nI s) x y := by
  have v : vp_in (nI s) 4 := vp_in_nI h4 (by decide)
  have w : vp_in (nI (16 * s + c)) 64 := vp_in_nI (by omega) (by decide)
  have hcl : (nI s).toNatClampNeg = s := nI_clamp (by omega)
  have hcl2 : (nI (16 * s + c)).toNatClampNeg = 16 * s + c := nI_clamp (by omega)
  refine br_f (nI_pos (by omega)) (br_t (nI_le (b := 3) (by omega) (by decide)) (And.intro v ?_))
  rw [hcl, e]
  refine br_t (nI_lt (b := 16) hc (by decide)) (And.intro v (nm_r (mr_e16 s c) (And.intro w (nm_r (e' := upd rk (16 * s + c) x) (by rw [hcl2]) (And.intro w (nm_r (e' := upd rv (16 * s + c) y) (by rw [hcl2]) (And.intro v (And.intro v (nm_r (e' := upd rc s (nI (c + 1))) (by rw [nI_1, mr_nb8 (by omega)]) (And.intro v ?_))))))))))
  rw [pk_us]
  exact h
theorem mr_xaddF {post : Int32 → SX → Prop} {s : Nat} {x y : Int32} (h4 : s < 4) (e : rc s = nI 16) (h : post (-2) (pc, bz, md, fa, fo, lw, hg, rd, bu, mp, sc, se, oe, rc, rk, rv, mf, rf, bk, bv, sk, sv, ps, hd, lm, os, ok, ov)) : wpX_addRecord post (pc, bz, md, fa, fo, lw, hg, rd, bu, mp, sc, se, oe, rc, rk, rv, mf, rf, bk, bv, sk, sv, ps, hd, lm, os, ok, ov) (nI s) x y := by
  have v : vp_in (nI s) 4 := vp_in_nI h4 (by decide)
  have hcl : (nI s).toNatClampNeg = s := nI_clamp (by omega)
  refine br_f (nI_pos (by omega)) (br_t (nI_le (b := 3) (by omega) (by decide)) (And.intro v ?_))
  rw [hcl, e]
  exact br_f (by decide) h
theorem mr_yadd {post : Int32 → SY → Prop} {s c : Nat} {x y : Int32} (h4 : s < 4) (hc : c < 16) (e : sz s = nI c) (h : post (nI (c + 1)) (pt, yd, yf, yo, yl, yh, ym, upd sz s (nI (c + 1)), upd ks (16 * s + c) x, upd vs (16 * s + c) y, fl, hs, rs)) : wpY_addRecord post (pt, yd, yf, yo, yl, yh, ym, sz, ks, vs, fl, hs, rs) (nI s) x y := by
  have v : vp_in (nI s) 4 := vp_in_nI h4 (by decide)
  have w : vp_in (nI (16 * s + c)) 64 := vp_in_nI (by omega) (by decide)
  have hcl : (nI s).toNatClampNeg = s := nI_clamp (by omega)
  have hcl2 : (nI (16 * s + c)).toNatClampNeg = 16 * s + c := nI_clamp (by omega)
  refine br_f (nI_pos (by omega)) (br_t (nI_le (b := 3) (by omega) (by decide)) (And.intro v ?_))
  rw [hcl, e, mr_e16 s c, hcl2, nI_1]
  refine pk_eq c 16 (fun z => by omega) (fun z => ?_)
  refine And.intro v (And.intro w (nm_e (And.intro v (And.intro w (nm_e (And.intro v (And.intro v (nm_e (And.intro v ?_)))))))))
  rw [pk_us]
  exact h
theorem mr_yaddF {post : Int32 → SY → Prop} {s : Nat} {x y : Int32} (h4 : s < 4) (e : sz s = nI 16) (h : post (-2) (pt, yd, yf, yo, yl, yh, ym, sz, ks, vs, fl, hs, rs)) : wpY_addRecord post (pt, yd, yf, yo, yl, yh, ym, sz, ks, vs, fl, hs, rs) (nI s) x y := by
  have v : vp_in (nI s) 4 := vp_in_nI h4 (by decide)
  have hcl : (nI s).toNatClampNeg = s := nI_clamp (by omega)
  refine br_f (nI_pos (by omega)) (br_t (nI_le (b := 3) (by omega) (by decide)) (And.intro v ?_))
  rw [hcl, e]
  exact br_t rfl h
end
theorem mr_rc_u {rc : Nat → Int32} {s c : Nat} (h : ∀ j, j < 4 → ∃ c, c ≤ 16 ∧ rc j = nI c) (hc : c ≤ 16) : ∀ j, j < 4 → ∃ c', c' ≤ 16 ∧ upd rc s (nI c) j = nI c' := by
  intro j hj
  by_cases e : j = s
  · subst e
    exact ⟨c, hc, pk_us⟩
  · rw [pk_un e]
    exact h j hj
theorem i_vc_addRecord {k : Nat} {u : SX} {v : SY} (I : i_Rel k u v) (hk : k + 4 ≤ 2050) (v1 : Int32) (v2 : Int32) (v3 : Int32) : wpX_addRecord (fun r u' => wpY_addRecord (fun r' v' => r' = r ∧ i_Rel (k + 4) u' v') v v1 v2 v3) u v1 v2 v3 := by
  refine mr_el (Q := fun u v => wpX_addRecord (fun r u' => wpY_addRecord (fun r' v' => r' = r ∧ i_Rel (k + 4) u' v') v v1 v2 v3) u v1 v2 v3) I ?_
  intro p bs m h F fa fo lw hg rd bu mp sc se rc rk rv mf rf bk bv sk sv ps hd lm os ok ov fl hs rs a1 a2 a3 a4 a5 a6 b1 b2 b3
  by_cases c1 : v1 < 0
  · exact br_t c1 (br_t c1 ⟨rfl, mr_mk a1 a2 a3 a4 a5 a6 b1 b2 b3 rfl⟩)
  · by_cases c2 : v1 ≤ 3
    · obtain ⟨s, hs', e⟩ := nI_of2 (x := v1) (M := 3) (n := 3) (by decide) c1 c2
      subst e
      obtain ⟨c, hc, ec⟩ := b1 s (by omega)
      by_cases d : c = 16
      · subst d
        exact mr_xaddF (by omega) ec (mr_yaddF (by omega) ec ⟨rfl, mr_mk a1 a2 a3 a4 a5 a6 b1 b2 b3 rfl⟩)
      · exact mr_xadd (by omega) (by omega) ec (mr_yadd (by omega) (by omega) ec ⟨rfl, mr_mk a1 a2 a3 a4 a5 a6 (mr_rc_u b1 (by omega)) b2 b3 rfl⟩)
    · exact br_f c1 (br_f c2 (br_f c1 (br_f c2 ⟨rfl, mr_mk a1 a2 a3 a4 a5 a6 b1 b2 b3 rfl⟩)))
theorem i_vc_mapping {k : Nat} {u : SX} {v : SY} (I : i_Rel k u v) (hk : k + 4 ≤ 2050) (v1 : Int32) (v2 : Int32) (v3 : Int32) : wpX_mapping (fun r u' => wpY_mapping (fun r' v' => r' = r ∧ i_Rel (k + 4) u' v') v v1 v2 v3) u v1 v2 v3 := by
  refine mr_el (Q := fun u v => wpX_mapping (fun r u' => wpY_mapping (fun r' v' => r' = r ∧ i_Rel (k + 4) u' v') v v1 v2 v3) u v1 v2 v3) I ?_
  intro p bs m h F fa fo lw hg rd bu mp sc se rc rk rv mf rf bk bv sk sv ps hd lm os ok ov fl hs rs a1 a2 a3 a4 a5 a6 b1 b2 b3
  by_cases c1 : v1 < 1
  · exact br_t c1 (br_t c1 ⟨rfl, mr_mk a1 a2 a3 a4 a5 a6 b1 b2 b3 rfl⟩)
  · by_cases c2 : v1 ≤ 16
    · obtain ⟨s, hs', e⟩ := nI_of2 (x := v1) (M := 16) (n := 16) (by decide) (by
        rw [Int32.lt_iff_toInt_lt] at c1 ⊢
        have h2 : (1 : Int32).toInt = 1 := by decide
        have h0 : (0 : Int32).toInt = 0 := by decide
        omega) c2
      subst e
      have h1 : 1 ≤ s := by
        by_cases z : s = 0
        · subst z; exact absurd (show nI 0 < 1 by decide) c1
        · omega
      exact br_f c1 (br_t c2 (br_f c1 (br_t c2 ⟨rfl, mr_mk a1 a2 a3 a4 h1 hs' b1 b2 b3 rfl⟩)))
    · exact br_f c1 (br_f c2 (br_f c1 (br_f c2 ⟨rfl, mr_mk a1 a2 a3 a4 a5 a6 b1 b2 b3 rfl⟩)))
theorem i_vc_bounds {k : Nat} {u : SX} {v : SY} (I : i_Rel k u v) (hk : k + 4 ≤ 2050) (v1 : Int32) (v2 : Int32) : wpX_bounds (fun u' => wpY_bounds (fun v' => i_Rel (k + 4) u' v') v v1 v2) u v1 v2 := by
  refine mr_el (Q := fun u v => wpX_bounds (fun u' => wpY_bounds (fun v' => i_Rel (k + 4) u' v') v v1 v2) u v1 v2) I ?_
  intro p bs m h F fa fo lw hg rd bu mp sc se rc rk rv mf rf bk bv sk sv ps hd lm os ok ov fl hs rs a1 a2 a3 a4 a5 a6 b1 b2 b3
  show i_Rel (k + 4) (nI p, nI bs, nI m, fa, fo, v1, v2, rd, bu, mp, sc, se, nI (mr_OS h p 4), rc, rk, rv, mf, rf, bk, bv, sk, sv, ps, hd, lm, os, ok, ov) (nI p, nI m, fa, fo, v1, v2, mp, rc, rk, rv, fl, hs, rs)
  exact mr_mk a1 a2 a3 a4 a5 a6 b1 b2 b3 rfl
theorem i_vc_mapped {k : Nat} {u : SX} {v : SY} (I : i_Rel k u v) (hk : k + 4 ≤ 2050) : wpX_mapped (fun r => wpY_mapped (fun r' => r' = r ∧ i_Rel (k + 4) u v) v) u := by
  refine mr_el (Q := fun u v => wpX_mapped (fun r => wpY_mapped (fun r' => r' = r ∧ i_Rel (k + 4) u v) v) u) I ?_
  intro p bs m h F fa fo lw hg rd bu mp sc se rc rk rv mf rf bk bv sk sv ps hd lm os ok ov fl hs rs a1 a2 a3 a4 a5 a6 b1 b2 b3
  exact And.intro rfl (mr_mk a1 a2 a3 a4 a5 a6 b1 b2 b3 rfl)
theorem i_vc_emptySplit {k : Nat} {u : SX} {v : SY} (I : i_Rel k u v) (hk : k + 4 ≤ 2050) (v1 : Int32) : wpX_emptySplit (fun r u' => wpY_emptySplit (fun r' v' => r' = r ∧ i_Rel (k + 4) u' v') v v1) u v1 := by
  refine mr_el (Q := fun u v => wpX_emptySplit (fun r u' => wpY_emptySplit (fun r' v' => r' = r ∧ i_Rel (k + 4) u' v') v v1) u v1) I ?_
  intro p bs m h F fa fo lw hg rd bu mp sc se rc rk rv mf rf bk bv sk sv ps hd lm os ok ov fl hs rs a1 a2 a3 a4 a5 a6 b1 b2 b3
  by_cases c1 : v1 < 0
  · exact br_t c1 (br_t c1 ⟨rfl, mr_mk a1 a2 a3 a4 a5 a6 b1 b2 b3 rfl⟩)
  · by_cases c2 : v1 ≤ 3
    · obtain ⟨s, hs', e⟩ := nI_of2 (x := v1) (M := 3) (n := 3) (by decide) c1 c2
      subst e
      have v : vp_in (nI s) 4 := vp_in_nI (by omega) (by decide)
      have hcl : (nI s).toNatClampNeg = s := nI_clamp (by omega)
      have h0 : vp_nar .byte 0 = 0 := mr_nb (q := 0) (by decide)
      refine br_f c1 (br_t c2 (And.intro v (nm_e (And.intro v (nm_r (e' := upd rc s 0) (by rw [hcl, h0]) ?_)))))
      refine br_f c1 (br_t c2 (And.intro v (nm_e (And.intro v (nm_r (e' := upd rc s 0) (by rw [hcl]) ⟨rfl, ?_⟩)))))
      exact mr_mk a1 a2 a3 a4 a5 a6 (mr_rc_u (c := 0) b1 (by omega)) b2 b3 rfl
    · exact br_f c1 (br_f c2 (br_f c1 (br_f c2 ⟨rfl, mr_mk a1 a2 a3 a4 a5 a6 b1 b2 b3 rfl⟩)))
theorem mr_FF_m {F : Nat → Nat} {mf rf fl : Nat → Int32} {i t : Nat} (h : mr_FF F mf rf fl) (hi : i < 4) (ht : t ≤ 3) : mr_FF (fun j => if j = i then t else F j) (upd mf i (nI t)) rf (upd fl i (nI t)) := by
  intro j hj
  obtain ⟨h1, h2, h3, h4, h5, h6⟩ := h j hj
  have e1 : (if 4 + j = i then t else F (4 + j)) = F (4 + j) := if_neg (by omega)
  show (if j = i then t else F j) ≤ 3 ∧ (if 4 + j = i then t else F (4 + j)) ≤ 3 ∧ upd mf i (nI t) j = nI (if j = i then t else F j) ∧ rf j = nI (if 4 + j = i then t else F (4 + j)) ∧ upd fl i (nI t) j = nI (if j = i then t else F j) ∧ upd fl i (nI t) (4 + j) = nI (if 4 + j = i then t else F (4 + j))
  rw [e1, pk_un (show 4 + j ≠ i by omega)]
  by_cases e : j = i
  · subst e
    rw [if_pos rfl, pk_us, pk_us]
    exact ⟨ht, h2, rfl, h4, rfl, h6⟩
  · rw [if_neg e, pk_un e, pk_un e]
    exact ⟨h1, h2, h3, h4, h5, h6⟩
theorem mr_FF_r {F : Nat → Nat} {mf rf fl : Nat → Int32} {i t : Nat} (h : mr_FF F mf rf fl) (hi : i < 4) (ht : t ≤ 3) : mr_FF (fun j => if j = 4 + i then t else F j) mf (upd rf i (nI t)) (upd fl (4 + i) (nI t)) := by
  intro j hj
  obtain ⟨h1, h2, h3, h4, h5, h6⟩ := h j hj
  have e1 : (if j = 4 + i then t else F j) = F j := if_neg (by omega)
  show (if j = 4 + i then t else F j) ≤ 3 ∧ (if 4 + j = 4 + i then t else F (4 + j)) ≤ 3 ∧ mf j = nI (if j = 4 + i then t else F j) ∧ upd rf i (nI t) j = nI (if 4 + j = 4 + i then t else F (4 + j)) ∧ upd fl (4 + i) (nI t) j = nI (if j = 4 + i then t else F j) ∧ upd fl (4 + i) (nI t) (4 + j) = nI (if 4 + j = 4 + i then t else F (4 + j))
  rw [e1, pk_un (show j ≠ 4 + i by omega)]
  by_cases e : j = i
  · subst e
    rw [if_pos rfl, pk_us, pk_us]
    exact ⟨h1, ht, h3, rfl, h5, rfl⟩
  · rw [if_neg (show ¬ 4 + j = 4 + i by omega), pk_un e, pk_un (show 4 + j ≠ 4 + i by omega)]
    exact ⟨h1, h2, h3, h4, h5, h6⟩
end
section
/-! failures and run -/
theorem i_vc_failures {k : Nat} {u : SX} {v : SY} (I : i_Rel k u v) (hk : k + 4 ≤ 2050) (v1 : Int32) (v2 : Int32) (v3 : Int32) : wpX_failures (fun r u' => wpY_failures (fun r' v' => r' = r ∧ i_Rel (k + 4) u' v') v (lw_bz v1) v2 v3) u (lw_bz v1) v2 v3 := by
  refine mr_el (Q := fun u v => wpX_failures (fun r u' => wpY_failures (fun r' v' => r' = r ∧ i_Rel (k + 4) u' v') v (lw_bz v1) v2 v3) u (lw_bz v1) v2 v3) I ?_
  intro p bs m h F fa fo lw hg rd bu mp sc se rc rk rv mf rf bk bv sk sv ps hd lm os ok ov fl hs rs a1 a2 a3 a4 a5 a6 b1 b2 b3
  generalize lw_bz v1 = z
  have same : (0 : Int32) = 0 ∧ i_Rel (k + 4) (nI p, nI bs, nI m, fa, fo, lw, hg, rd, bu, mp, sc, se, nI (mr_OS h p 4), rc, rk, rv, mf, rf, bk, bv, sk, sv, ps, hd, lm, os, ok, ov) (nI p, nI m, fa, fo, lw, hg, mp, rc, rk, rv, fl, hs, rs) := ⟨rfl, mr_mk a1 a2 a3 a4 a5 a6 b1 b2 b3 rfl⟩
  by_cases c1 : v2 < 0
  · exact br_t c1 (br_t c1 same)
  · obtain ⟨i, hi, e⟩ := nI_of c1
    subst e
    by_cases c2 : 3 < i
    · refine br_f c1 (br_t (nI_lt (a := 3) c2 hi) (br_f c1 (br_c (fun _ => ?_) (fun _ => ?_))))
      · exact br_t (nI_le (a := 4) (by omega) hi) same
      · exact br_t (nI_le (by omega) hi) same
    · have n2 : ¬ (3 : Int32) < nI i := nI_nlt (a := 3) (by omega) (by omega)
      by_cases c3 : v3 < 0
      · refine br_f c1 (br_f n2 (br_t c3 (br_f c1 (br_c (fun _ => ?_) (fun _ => br_c (fun _ => same) (fun _ => br_t c3 same))))))
        exact br_c (fun _ => same) (fun _ => br_t c3 same)
      · obtain ⟨t, ht, e⟩ := nI_of c3
        subst e
        by_cases c4 : t ≤ 3
        · have y4 : nI t ≤ 3 := nI_le (b := 3) c4 (by decide)
          have hcl : (nI i).toNatClampNeg = i := nI_clamp (by omega)
          have v : vp_in (nI i) 4 := vp_in_nI (by omega) (by decide)
          by_cases c5 : z = 0
          · refine br_f c1 (br_f n2 (br_f c3 (br_t y4 (br_t c5 (br_t c5 (And.intro v (nm_r (e' := upd mf i (nI t)) (by rw [hcl, mr_nb8 (by omega)]) ?_)))))))
            refine br_f c1 (br_t c5 (br_f (nI_ge (b := 4) (by omega) (by decide)) (br_f c3 (br_t y4 (br_t c5 (And.intro (vp_in_nI (by omega) (by decide)) (nm_r (e' := upd fl i (nI t)) (by rw [hcl]) ⟨rfl, ?_⟩)))))))
            exact mr_mk a1 a2 a3 a4 a5 a6 b1 (mr_FF_m b2 (by omega) c4) b3 rfl
          · by_cases c6 : i < p
            · have e4 : (4 : Int32) + nI i = nI (4 + i) := nI_add 4 i
              refine br_f c1 (br_f n2 (br_f c3 (br_t y4 (br_f c5 (br_t (nI_lt c6 (by omega)) (br_f c5 (And.intro v (nm_r (e' := upd rf i (nI t)) (by rw [hcl, mr_nb8 (by omega)]) ?_))))))))
              refine br_f c1 (br_f c5 (br_f (nI_ge c6 (by omega)) (br_f c3 (br_t y4 (br_f c5 (And.intro (by rw [e4]; exact vp_in_nI (by omega) (by decide)) (nm_r (e' := upd fl (4 + i) (nI t)) (by rw [e4, nI_clamp (by omega)]) ⟨rfl, ?_⟩)))))))
              exact mr_mk a1 a2 a3 a4 a5 a6 b1 (mr_FF_r b2 (by omega) c4) b3 rfl
            · exact br_f c1 (br_f n2 (br_f c3 (br_t y4 (br_f c5 (br_f (nI_nlt (by omega) (by omega)) (br_f c1 (br_f c5 (br_t (nI_le (by omega) (by omega)) same))))))))
        · have y4 : ¬ nI t ≤ 3 := nI_ge (a := 3) (by omega) ht
          refine br_f c1 (br_f n2 (br_f c3 (br_f y4 (br_f c1 (br_c (fun _ => ?_) (fun _ => ?_))))))
          · exact br_c (fun _ => same) (fun _ => br_f c3 (br_f y4 same))
          · exact br_c (fun _ => same) (fun _ => br_f c3 (br_f y4 same))
theorem i_vc_run {k : Nat} {u : SX} {v : SY} (I : i_Rel k u v) (hk : k + 4 ≤ 2050) (v1 : Int32) : wpX_run (fun r u' => wpY_run (fun r' v' => r' = r ∧ i_Rel (k + 4) u' v') v v1) u v1 := by
  refine mr_el (Q := fun u v => wpX_run (fun r u' => wpY_run (fun r' v' => r' = r ∧ i_Rel (k + 4) u' v') v v1) u v1) I ?_
  intro p bs m h F fa fo lw hg rd bu mp sc se rc rk rv mf rf bk bv sk sv ps hd lm os ok ov fl hs rs a1 a2 a3 a4 a5 a6 b1 b2 b3
  by_cases c1 : v1 < 0
  · exact br_t c1 (br_t c1 ⟨rfl, mr_mk a1 a2 a3 a4 a5 a6 b1 b2 b3 rfl⟩)
  · by_cases c2 : v1 ≤ 4
    · obtain ⟨r, hr, e⟩ := nI_of2 (x := v1) (M := 4) (n := 4) (by decide) c1 c2
      subst e
      have hT : mr_sm F 8 < 1000 := by
        have f0 : F 0 ≤ 3 ∧ F 4 ≤ 3 := ⟨(b2 0 (by omega)).1, (b2 0 (by omega)).2.1⟩
        have f1 : F 1 ≤ 3 ∧ F 5 ≤ 3 := ⟨(b2 1 (by omega)).1, (b2 1 (by omega)).2.1⟩
        have f2 : F 2 ≤ 3 ∧ F 6 ≤ 3 := ⟨(b2 2 (by omega)).1, (b2 2 (by omega)).2.1⟩
        have f3 : F 3 ≤ 3 ∧ F 7 ≤ 3 := ⟨(b2 3 (by omega)).1, (b2 3 (by omega)).2.1⟩
        show 0 + F 0 + F 1 + F 2 + F 3 + F 4 + F 5 + F 6 + F 7 < 1000
        omega
      refine mr_xrun (F := F) hT a1 a2 hr a3 a4 a5 a6 b1 (fun j hj => ⟨(b2 j hj).1, (b2 j hj).2.1, (b2 j hj).2.2.1, (b2 j hj).2.2.2.1⟩) ?_
      intro bu' sc' se' mf' rf' bk' bv' sk' sv' ps' hd' lm' os' ok' ov' g1 g2 g3
      refine mr_yrun (F := F) hT a5 a6 hr ?_ ?_
      · intro i hi
        by_cases z : i < 4
        · exact (b2 i z).2.2.2.2.1
        · have := (b2 (i - 4) (by omega)).2.2.2.2.2
          rw [show 4 + (i - 4) = i by omega] at this
          exact this
      · intro fl' hs' rs' k1 k2 k3
        refine ⟨by rw [mr_OS_4 a1 a2], ?_⟩
        refine mr_mk (h := mr_hh (mr_sm F 8) (mr_RK (nI m) lw hg rc rk rv) (mr_W r fa fo rv)) (F := fun _ => 0) a1 a2 a3 a4 a5 a6 b1 ?_ ⟨g2, k2, ?_⟩ rfl
        · intro j hj
          exact ⟨Nat.zero_le _, Nat.zero_le _, (g1 j hj).1, (g1 j hj).2, k1 j (by omega), k1 (4 + j) (by omega)⟩
        · intro x hx hh
          have hm := Nat.mod_lt x (show p > 0 by omega)
          rw [k3 x hx]
          exact g3 x hx hh (by omega)
    · exact br_f c1 (br_f c2 (br_f c1 (br_f c2 ⟨rfl, mr_mk a1 a2 a3 a4 a5 a6 b1 b2 b3 rfl⟩)))
end
section
/-! results, keyAt, valueAt -/
section
variable {pc bz md fa fo lw hg rd bu mp sc se oe : Int32} {rc rk rv mf rf bk bv sk sv ps hd lm os ok ov : Nat → Int32} {pt yd yf yo yl yh ym : Int32} {sz ks vs fl hs rs : Nat → Int32} {p : Nat} {h : Nat → Bool}
theorem mr_yr18 {post : Int32 → Prop} {q : Nat} (hp : 1 ≤ p) (hp4 : p ≤ 4) (hq : q < p) (hO : ∀ k, k < 16 → hs k = mr_bi (h k)) (C : post (nI (mr_cn h p q 16))) :
    ∀ d j n : Nat, j + d = 16 → d < n → wY_results_18 post (nI q) (nI p) yd yf yo yl yh ym sz ks vs fl hs rs n (nI (mr_cn h p q j)) (nI j) := by
  intro d
  induction d with
  | zero =>
    intro j n hj hn
    obtain ⟨n, rfl⟩ : ∃ k, n = k + 1 := ⟨n - 1, by omega⟩
    have e : j = 16 := by omega
    subst e
    exact br_t (by decide) C
  | succ d ih =>
    intro j n hj hn
    obtain ⟨n, rfl⟩ : ∃ k, n = k + 1 := ⟨n - 1, by omega⟩
    have nx := ih (j + 1) n (by omega) (by omega)
    have v : vp_in (nI j) 16 := vp_in_nI (by omega) (by decide)
    have hc : (nI j).toNatClampNeg = j := nI_clamp (by omega)
    have hm := Nat.mod_lt j (show p > 0 by omega)
    refine br_f (nI_ge (b := 16) (by omega) (by decide)) (And.intro v ?_)
    rw [hc, hO j (by omega)]
    by_cases c : h j = true
    · refine br_f (by rw [c]; decide) (And.intro (nI_ne0 (by omega) (by omega)) (pk_eq (j % p) q (fun e => ?_) (fun e => ?_) (pk_rem (by omega) (by omega) (by omega)) rfl (by omega) (by omega)))
      · rw [mr_cn_t c e] at nx
        exact nm_r (nI_1 _) (nm_r (nI_1 j) nx)
      · rw [mr_cn_f (fun z => e z.2)] at nx
        exact nm_r (nI_1 j) nx
    · rw [mr_cn_f (fun z => c z.1)] at nx
      exact br_t (if_neg c) (nm_r (nI_1 j) nx)
theorem mr_yk1 {post : Int32 → Prop} {q i k : Nat} (hp : 1 ≤ p) (hp4 : p ≤ 4) (hq : q < p) (hO : ∀ k, k < 16 → hs k = mr_bi (h k)) (hk : k < 16) (hh : h k = true) (hkq : k % p = q) (hi : mr_cn h p q k = i) (C : post (nI k)) :
    ∀ d j n : Nat, j + d = k → d < n → wY_keyAt_19 post (nI q) (nI i) (nI p) yd yf yo yl yh ym sz ks vs fl hs rs n (nI (mr_cn h p q j)) (nI j) := by
  intro d
  induction d with
  | zero =>
    intro j n hj hn
    obtain ⟨n, rfl⟩ : ∃ k, n = k + 1 := ⟨n - 1, by omega⟩
    have e : j = k := by omega
    subst e
    have v : vp_in (nI j) 16 := vp_in_nI (by omega) (by decide)
    have hc : (nI j).toNatClampNeg = j := nI_clamp (by omega)
    have hm := Nat.mod_lt j (show p > 0 by omega)
    refine br_f (nI_ge (b := 16) (by omega) (by decide)) (And.intro v ?_)
    rw [hc, hO j (by omega), hi]
    exact br_f (by rw [hh]; decide) (And.intro (nI_ne0 (by omega) (by omega)) (pk_eq (j % p) q (fun e => br_t rfl C) (fun e => absurd hkq e) (pk_rem (by omega) (by omega) (by omega)) rfl (by omega) (by omega)))
  | succ d ih =>
    intro j n hj hn
    obtain ⟨n, rfl⟩ : ∃ k, n = k + 1 := ⟨n - 1, by omega⟩
    have nx := ih (j + 1) n (by omega) (by omega)
    have v : vp_in (nI j) 16 := vp_in_nI (by omega) (by decide)
    have hc : (nI j).toNatClampNeg = j := nI_clamp (by omega)
    have hm := Nat.mod_lt j (show p > 0 by omega)
    have hle := mr_cn_le (h := h) (p := p) (q := q) k
    have hle2 := mr_cn_le (h := h) (p := p) (q := q) j
    refine br_f (nI_ge (b := 16) (by omega) (by decide)) (And.intro v ?_)
    rw [hc, hO j (by omega)]
    by_cases c : h j = true
    · refine br_f (by rw [c]; decide) (And.intro (nI_ne0 (by omega) (by omega)) (pk_eq (j % p) q (fun e => ?_) (fun e => ?_) (pk_rem (by omega) (by omega) (by omega)) rfl (by omega) (by omega)))
      · have hx := mr_cn_x c e (show j < k by omega)
        rw [mr_cn_t c e] at nx
        exact pk_eq (mr_cn h p q j) i (fun z => by omega) (fun z => nm_r (nI_1 _) (nm_r (nI_1 j) nx))
      · rw [mr_cn_f (fun z => e z.2)] at nx
        exact nm_r (nI_1 j) nx
    · rw [mr_cn_f (fun z => c z.1)] at nx
      exact br_t (if_neg c) (nm_r (nI_1 j) nx)
theorem mr_yk0 {post : Int32 → Prop} {q : Nat} {x : Int32} (hp : 1 ≤ p) (hp4 : p ≤ 4) (hq : q < p) (hO : ∀ k, k < 16 → hs k = mr_bi (h k)) (hx : ∀ i, x = nI i → ¬ i < mr_cn h p q 16) (C : post (-1)) :
    ∀ d j n : Nat, j + d = 16 → d < n → wY_keyAt_19 post (nI q) x (nI p) yd yf yo yl yh ym sz ks vs fl hs rs n (nI (mr_cn h p q j)) (nI j) := by
  intro d
  induction d with
  | zero =>
    intro j n hj hn
    obtain ⟨n, rfl⟩ : ∃ k, n = k + 1 := ⟨n - 1, by omega⟩
    have e : j = 16 := by omega
    subst e
    exact br_t (by decide) C
  | succ d ih =>
    intro j n hj hn
    obtain ⟨n, rfl⟩ : ∃ k, n = k + 1 := ⟨n - 1, by omega⟩
    have nx := ih (j + 1) n (by omega) (by omega)
    have v : vp_in (nI j) 16 := vp_in_nI (by omega) (by decide)
    have hc : (nI j).toNatClampNeg = j := nI_clamp (by omega)
    have hm := Nat.mod_lt j (show p > 0 by omega)
    refine br_f (nI_ge (b := 16) (by omega) (by decide)) (And.intro v ?_)
    rw [hc, hO j (by omega)]
    by_cases c : h j = true
    · refine br_f (by rw [c]; decide) (And.intro (nI_ne0 (by omega) (by omega)) (pk_eq (j % p) q (fun e => ?_) (fun e => ?_) (pk_rem (by omega) (by omega) (by omega)) rfl (by omega) (by omega)))
      · have hlt := mr_cn_x c e (show j < 16 by omega)
        rw [mr_cn_t c e] at nx
        exact br_f (fun z => hx _ z.symm hlt) (nm_r (nI_1 _) (nm_r (nI_1 j) nx))
      · rw [mr_cn_f (fun z => e z.2)] at nx
        exact nm_r (nI_1 j) nx
    · rw [mr_cn_f (fun z => c z.1)] at nx
      exact br_t (if_neg c) (nm_r (nI_1 j) nx)
theorem mr_yka1 {post : Int32 → Prop} {q i k : Nat} (hp : 1 ≤ p) (hp4 : p ≤ 4) (hq : q < p) (hO : ∀ k, k < 16 → hs k = mr_bi (h k)) (hk : k < 16) (hh : h k = true) (hkq : k % p = q) (hi : mr_cn h p q k = i) (C : post (nI k)) : wpY_keyAt post (nI p, yd, yf, yo, yl, yh, ym, sz, ks, vs, fl, hs, rs) (nI q) (nI i) :=
  br_f (nI_pos (by omega)) (br_t (nI_lt hq (by omega)) (Exists.intro 17 (mr_yk1 hp hp4 hq hO hk hh hkq hi C k 0 17 (by omega) (by omega))))
theorem mr_yka0 {post : Int32 → Prop} {x y : Int32} (hp : 1 ≤ p) (hp4 : p ≤ 4) (hO : ∀ k, k < 16 → hs k = mr_bi (h k)) (hn : ∀ q i, x = nI q → y = nI i → q < p → ¬ i < mr_cn h p q 16) (C : post (-1)) : wpY_keyAt post (nI p, yd, yf, yo, yl, yh, ym, sz, ks, vs, fl, hs, rs) x y := by
  by_cases c1 : x < 0
  · exact br_t c1 C
  · obtain ⟨q, hq, e⟩ := nI_of c1
    subst e
    by_cases c2 : q < p
    · exact br_f c1 (br_t (nI_lt c2 (by omega)) (Exists.intro 17 (mr_yk0 hp hp4 c2 hO (fun i ei => hn q i rfl ei c2) C 16 0 17 (by omega) (by omega))))
    · exact br_f c1 (br_f (nI_nlt (by omega) hq) C)
theorem mr_is1 {post : Int32 → Prop} {q i : Nat} (hp : 1 ≤ p) (hp4 : p ≤ 4) (hq : q < p) (hO : ∀ q, q ≤ 4 → os q = nI (mr_OS h p q)) (hi : i < mr_cn h p q 16) (C : post 1) : wpX_isResult post (nI p, bz, md, fa, fo, lw, hg, rd, bu, mp, sc, se, oe, rc, rk, rv, mf, rf, bk, bv, sk, sv, ps, hd, lm, os, ok, ov) (nI q) (nI i) := by
  have hle := mr_cn_le (h := h) (p := p) (q := q) 16
  have v : vp_in (nI q) 5 := vp_in_nI (by omega) (by decide)
  have v1 : vp_in (nI q + 1) 5 := by rw [nI_1]; exact vp_in_nI (by omega) (by decide)
  have hc : (nI q).toNatClampNeg = q := nI_clamp (by omega)
  have hc1 : (nI q + 1).toNatClampNeg = q + 1 := by rw [nI_1]; exact nI_clamp (by omega)
  have e : os (nI q + 1).toNatClampNeg - os (nI q).toNatClampNeg = nI (mr_cn h p q 16) := by
    rw [hc, hc1, hO q (by omega), hO (q + 1) (by omega), pk_sub (mr_OS_m (by omega)), mr_OS_s, Nat.add_sub_cancel_left]
  refine br_f (nI_pos (by omega)) (br_f (nI_ge hq (by omega)) (br_t (nI_pos' (by omega)) (And.intro v1 (And.intro v ?_))))
  rw [e]
  exact br_f (nI_ge hi (by omega)) C
theorem mr_is0 {post : Int32 → Prop} {x y : Int32} (hp : 1 ≤ p) (hp4 : p ≤ 4) (hO : ∀ q, q ≤ 4 → os q = nI (mr_OS h p q)) (hn : ∀ q i, x = nI q → y = nI i → q < p → ¬ i < mr_cn h p q 16) (C : post 0) : wpX_isResult post (nI p, bz, md, fa, fo, lw, hg, rd, bu, mp, sc, se, oe, rc, rk, rv, mf, rf, bk, bv, sk, sv, ps, hd, lm, os, ok, ov) x y := by
  by_cases c1 : x < 0
  · exact br_t c1 C
  · obtain ⟨q, hq, e⟩ := nI_of c1
    subst e
    by_cases c2 : q < p
    · refine br_f c1 (br_f (nI_ge c2 (by omega)) (br_c (fun c3 => ?_) (fun _ => C)))
      obtain ⟨i, hi, e⟩ := nI_of (x := y) (Int32.not_lt.mpr c3)
      subst e
      have hle := mr_cn_le (h := h) (p := p) (q := q) 16
      have v : vp_in (nI q) 5 := vp_in_nI (by omega) (by decide)
      have v1 : vp_in (nI q + 1) 5 := by rw [nI_1]; exact vp_in_nI (by omega) (by decide)
      have hc : (nI q).toNatClampNeg = q := nI_clamp (by omega)
      have hc1 : (nI q + 1).toNatClampNeg = q + 1 := by rw [nI_1]; exact nI_clamp (by omega)
      have e : os (nI q + 1).toNatClampNeg - os (nI q).toNatClampNeg = nI (mr_cn h p q 16) := by
        rw [hc, hc1, hO q (by omega), hO (q + 1) (by omega), pk_sub (mr_OS_m (by omega)), mr_OS_s, Nat.add_sub_cancel_left]
      have hni := hn q i rfl rfl c2
      refine And.intro v1 (And.intro v ?_)
      rw [e]
      exact br_t (nI_le (by omega) hi) C
    · exact br_f c1 (br_t (nI_le (by omega) hq) C)
end
theorem i_vc_results {k : Nat} {u : SX} {v : SY} (I : i_Rel k u v) (hk : k + 4 ≤ 2050) (v1 : Int32) : wpX_results (fun r => wpY_results (fun r' => r' = r ∧ i_Rel (k + 4) u v) v v1) u v1 := by
  refine mr_el (Q := fun u v => wpX_results (fun r => wpY_results (fun r' => r' = r ∧ i_Rel (k + 4) u v) v v1) u v1) I ?_
  intro p bs m h F fa fo lw hg rd bu mp sc se rc rk rv mf rf bk bv sk sv ps hd lm os ok ov fl hs rs a1 a2 a3 a4 a5 a6 b1 b2 b3
  by_cases c1 : v1 < 0
  · exact br_t c1 (br_t c1 ⟨rfl, mr_mk a1 a2 a3 a4 a5 a6 b1 b2 b3 rfl⟩)
  · obtain ⟨q, hq, e⟩ := nI_of c1
    subst e
    by_cases c2 : q < p
    · have v : vp_in (nI q) 5 := vp_in_nI (by omega) (by decide)
      have v1 : vp_in (nI q + 1) 5 := by rw [nI_1]; exact vp_in_nI (by omega) (by decide)
      have hc : (nI q).toNatClampNeg = q := nI_clamp (by omega)
      have hc1 : (nI q + 1).toNatClampNeg = q + 1 := by rw [nI_1]; exact nI_clamp (by omega)
      have e : os (nI q + 1).toNatClampNeg - os (nI q).toNatClampNeg = nI (mr_cn h p q 16) := by
        rw [hc, hc1, b3.1 q (by omega), b3.1 (q + 1) (by omega), pk_sub (mr_OS_m (by omega)), mr_OS_s, Nat.add_sub_cancel_left]
      refine br_f c1 (br_t (nI_lt c2 (by omega)) (And.intro v1 (And.intro v ?_)))
      rw [e]
      exact br_f c1 (br_t (nI_lt c2 (by omega)) (Exists.intro 17 (mr_yr18 a1 a2 c2 b3.2.1 ⟨rfl, mr_mk a1 a2 a3 a4 a5 a6 b1 b2 b3 rfl⟩ 16 0 17 (by omega) (by omega))))
    · have n2 : ¬ nI q < nI p := nI_nlt (by omega) hq
      exact br_f c1 (br_f n2 (br_f c1 (br_f n2 ⟨rfl, mr_mk a1 a2 a3 a4 a5 a6 b1 b2 b3 rfl⟩)))
theorem i_vc_keyAt {k : Nat} {u : SX} {v : SY} (I : i_Rel k u v) (hk : k + 4 ≤ 2050) (v1 : Int32) (v2 : Int32) : wpX_keyAt (fun r => wpY_keyAt (fun r' => r' = r ∧ i_Rel (k + 4) u v) v v1 v2) u v1 v2 := by
  refine mr_el (Q := fun u v => wpX_keyAt (fun r => wpY_keyAt (fun r' => r' = r ∧ i_Rel (k + 4) u v) v v1 v2) u v1 v2) I ?_
  intro p bs m h F fa fo lw hg rd bu mp sc se rc rk rv mf rf bk bv sk sv ps hd lm os ok ov fl hs rs a1 a2 a3 a4 a5 a6 b1 b2 b3
  unfold wpX_keyAt
  by_cases c : ∃ q i, v1 = nI q ∧ v2 = nI i ∧ q < p ∧ i < mr_cn h p q 16
  · obtain ⟨q, i, e1, e2, c1, c2⟩ := c
    subst e1 e2
    obtain ⟨x, hx, hh, hq, hi⟩ := mr_cn_ex c2
    have hle := mr_OS_16 (h := h) (q := q + 1) a1 a2 (by omega)
    rw [mr_OS_s] at hle
    have v : vp_in (nI q) 5 := vp_in_nI (by omega) (by decide)
    have hc : (nI q).toNatClampNeg = q := nI_clamp (by omega)
    have ea : os (nI q).toNatClampNeg + nI i = nI (mr_OS h p q + i) := by rw [hc, b3.1 q (by omega), nI_add]
    refine mr_is1 a1 a2 c1 b3.1 c2 (br_f (by decide) (And.intro v ?_))
    rw [ea, nI_clamp (n := mr_OS h p q + i) (by omega)]
    have hok := (b3.2.2 x hx hh).1
    rw [hq, hi] at hok
    rw [hok]
    exact And.intro (vp_in_nI (by omega) (by decide)) (mr_yka1 a1 a2 c1 b3.2.1 hx hh hq hi ⟨rfl, mr_mk a1 a2 a3 a4 a5 a6 b1 b2 b3 rfl⟩)
  · have hn : ∀ q i, v1 = nI q → v2 = nI i → q < p → ¬ i < mr_cn h p q 16 := fun q i e1 e2 c1 c2 => c ⟨q, i, e1, e2, c1, c2⟩
    exact mr_is0 a1 a2 b3.1 hn (br_t rfl (mr_yka0 a1 a2 b3.2.1 hn ⟨rfl, mr_mk a1 a2 a3 a4 a5 a6 b1 b2 b3 rfl⟩))
theorem i_vc_valueAt {k : Nat} {u : SX} {v : SY} (I : i_Rel k u v) (hk : k + 4 ≤ 2050) (v1 : Int32) (v2 : Int32) : wpX_valueAt (fun r => wpY_valueAt (fun r' => r' = r ∧ i_Rel (k + 4) u v) v v1 v2) u v1 v2 := by
  refine mr_el (Q := fun u v => wpX_valueAt (fun r => wpY_valueAt (fun r' => r' = r ∧ i_Rel (k + 4) u v) v v1 v2) u v1 v2) I ?_
  intro p bs m h F fa fo lw hg rd bu mp sc se rc rk rv mf rf bk bv sk sv ps hd lm os ok ov fl hs rs a1 a2 a3 a4 a5 a6 b1 b2 b3
  unfold wpX_valueAt
  by_cases c : ∃ q i, v1 = nI q ∧ v2 = nI i ∧ q < p ∧ i < mr_cn h p q 16
  · obtain ⟨q, i, e1, e2, c1, c2⟩ := c
    subst e1 e2
    obtain ⟨x, hx, hh, hq, hi⟩ := mr_cn_ex c2
    have hle := mr_OS_16 (h := h) (q := q + 1) a1 a2 (by omega)
    rw [mr_OS_s] at hle
    have v : vp_in (nI q) 5 := vp_in_nI (by omega) (by decide)
    have hc : (nI q).toNatClampNeg = q := nI_clamp (by omega)
    have ea : os (nI q).toNatClampNeg + nI i = nI (mr_OS h p q + i) := by rw [hc, b3.1 q (by omega), nI_add]
    refine mr_is1 a1 a2 c1 b3.1 c2 (br_f (by decide) (And.intro v ?_))
    rw [ea, nI_clamp (n := mr_OS h p q + i) (by omega)]
    have hov := (b3.2.2 x hx hh).2
    rw [hq, hi] at hov
    rw [hov]
    refine And.intro (vp_in_nI (by omega) (by decide)) ?_
    unfold wpY_valueAt
    refine mr_yka1 a1 a2 c1 b3.2.1 hx hh hq hi (br_f (fun z => mr_m1 hx z.symm) (And.intro (vp_in_nI hx (by decide)) ?_))
    rw [nI_clamp (n := x) (by omega)]
    exact ⟨rfl, mr_mk a1 a2 a3 a4 a5 a6 b1 b2 b3 rfl⟩
  · have hn : ∀ q i, v1 = nI q → v2 = nI i → q < p → ¬ i < mr_cn h p q 16 := fun q i e1 e2 c1 c2 => c ⟨q, i, e1, e2, c1, c2⟩
    refine mr_is0 a1 a2 b3.1 hn (br_t rfl ?_)
    unfold wpY_valueAt
    exact mr_yka0 a1 a2 b3.2.1 hn (br_t rfl ⟨rfl, mr_mk a1 a2 a3 a4 a5 a6 b1 b2 b3 rfl⟩)
end
section
/-! feedBack: both sides write the output's places into the records -/
def mr_fk (G o : Nat → Nat) (src old : Nat → Int32) : Nat → Int32 := fun j => if j < 64 ∧ j % 16 < G (j / 16) then src (o (j / 16) + j % 16) else old j
theorem mr_fk_0 {G o : Nat → Nat} {src old : Nat → Int32} (h : ∀ s, s < 4 → G s = 0) : old = mr_fk G o src old := by
  funext j
  unfold mr_fk
  rw [if_neg]
  intro z
  have := h (j / 16) (by omega)
  omega
theorem mr_fk_c {G G' o : Nat → Nat} {src old : Nat → Int32} (h : ∀ s, s < 4 → G' s = G s) : mr_fk G o src old = mr_fk G' o src old := by
  funext j
  unfold mr_fk
  by_cases c : j < 64
  · rw [h (j / 16) (by omega)]
  · rw [if_neg (fun z => c z.1), if_neg (fun z => c z.1)]
theorem mr_fk_u {G G' o : Nat → Nat} {src old : Nat → Int32} {s : Nat} (hs : s < 4) (hG : G s < 16) (h1 : G' s = G s + 1) (h2 : ∀ x, x < 4 → x ≠ s → G' x = G x) : upd (mr_fk G o src old) (16 * s + G s) (src (o s + G s)) = mr_fk G' o src old := by
  funext j
  by_cases e : j = 16 * s + G s
  · subst e
    rw [pk_us]
    unfold mr_fk
    have e1 : (16 * s + G s) / 16 = s := by omega
    have e2 : (16 * s + G s) % 16 = G s := by omega
    rw [e1, e2, if_pos ⟨by omega, by omega⟩]
  · rw [pk_un e]
    unfold mr_fk
    by_cases c : j < 64
    · by_cases d : j / 16 = s
      · rw [d, h1]
        by_cases f : j % 16 < G s
        · rw [if_pos ⟨c, f⟩, if_pos ⟨c, by omega⟩]
        · rw [if_neg (fun z => f z.2), if_neg (fun z => by omega)]
      · rw [h2 (j / 16) (by omega) d]
    · rw [if_neg (fun z => c z.1), if_neg (fun z => c z.1)]
def mr_gx (h : Nat → Bool) (p s i : Nat) : Nat → Nat := fun x => if x < s then mr_cn h p x 16 else if x = s then i else 0
theorem mr_gx_e {h : Nat → Bool} {p s i : Nat} : mr_gx h p s i s = i := by
  unfold mr_gx
  rw [if_neg (Nat.lt_irrefl _), if_pos rfl]
theorem mr_gx_n {h : Nat → Bool} {p s i i' x : Nat} (e : x ≠ s) : mr_gx h p s i x = mr_gx h p s i' x := by
  unfold mr_gx
  rw [if_neg e, if_neg e]
theorem mr_gx_s {h : Nat → Bool} {p s x : Nat} : mr_gx h p (s + 1) 0 x = mr_gx h p s (mr_cn h p s 16) x := by
  unfold mr_gx
  by_cases c : x < s
  · rw [if_pos c, if_pos (by omega)]
  · by_cases d : x = s
    · subst d
      rw [if_neg c, if_pos rfl, if_pos (by omega)]
    · rw [if_neg c, if_neg d, if_neg (by omega)]
      by_cases f : x = s + 1
      · rw [if_pos f]
      · rw [if_neg f]
section
variable {pc bz md fa fo lw hg rd bu mp sc se oe : Int32} {rc rk rv mf rf bk bv sk sv ps hd lm os ok ov : Nat → Int32} {p : Nat} {h : Nat → Bool} {rk0 rv0 rc0 : Nat → Int32}
theorem mr_x36 {post : Int32 → SX → Prop} {J : Int32 → (Nat → Int32) → (Nat → Int32) → (Nat → Int32) → (Nat → Int32) → (Nat → Int32) → (Nat → Int32) → (Nat → Int32) → (Nat → Int32) → (Nat → Int32) → (Nat → Int32) → (Nat → Int32) → (Nat → Int32) → (Nat → Int32) → (Nat → Int32) → (Nat → Int32) → Prop} {s g : Nat} (hp : 1 ≤ p) (hp4 : p ≤ 4) (hs : s < 4) (hg' : g = mr_cn h p s 16)
    (C : J (nI (s + 1)) rc (mr_fk (mr_gx h p s g) (mr_OS h p) ok rk0) (mr_fk (mr_gx h p s g) (mr_OS h p) ov rv0) mf rf bk bv sk sv ps hd lm os ok ov) :
    ∀ (d i n : Nat), i + d = g → d < n → wX_feedBack_36 post J (nI s) (nI (mr_OS h p s)) (nI g) pc bz md fa fo lw hg rd bu mp sc se oe n (nI i) rc (mr_fk (mr_gx h p s i) (mr_OS h p) ok rk0) (mr_fk (mr_gx h p s i) (mr_OS h p) ov rv0) mf rf bk bv sk sv ps hd lm os ok ov := by
  have hle := mr_OS_16 (h := h) (q := s + 1) hp hp4 (by omega)
  rw [mr_OS_s, ← hg'] at hle
  intro d
  induction d with
  | zero =>
    intro i n hi hn
    obtain ⟨n, rfl⟩ : ∃ k, n = k + 1 := ⟨n - 1, by omega⟩
    have e : i = g := by omega
    subst e
    exact br_t (nI_le (Nat.le_refl _) (by omega)) (nm_r (nI_1 s) C)
  | succ d ih =>
    intro i n hi hn
    obtain ⟨n, rfl⟩ : ∃ k, n = k + 1 := ⟨n - 1, by omega⟩
    have nx := ih (i + 1) n (by omega) (by omega)
    have eo : nI (mr_OS h p s) + nI i = nI (mr_OS h p s + i) := nI_add _ _
    have v1 : vp_in (nI (mr_OS h p s) + nI i) 16 := by rw [eo]; exact vp_in_nI (by omega) (by decide)
    have v2 : vp_in ((16 : Int32) * nI s + nI i) 64 := by rw [mr_e16]; exact vp_in_nI (by omega) (by decide)
    have c1 : (nI (mr_OS h p s) + nI i).toNatClampNeg = mr_OS h p s + i := by rw [eo]; exact nI_clamp (by omega)
    have c2 : ((16 : Int32) * nI s + nI i).toNatClampNeg = 16 * s + i := by rw [mr_e16]; exact nI_clamp (by omega)
    have u : ∀ src old : Nat → Int32, upd (mr_fk (mr_gx h p s i) (mr_OS h p) src old) (16 * s + i) (src (mr_OS h p s + i)) = mr_fk (mr_gx h p s (i + 1)) (mr_OS h p) src old := by
      intro src old
      have := mr_fk_u (G := mr_gx h p s i) (G' := mr_gx h p s (i + 1)) (o := mr_OS h p) (src := src) (old := old) hs (by rw [mr_gx_e]; omega) (by rw [mr_gx_e, mr_gx_e]) (fun x _ hx => mr_gx_n hx)
      rw [mr_gx_e] at this
      exact this
    refine br_f (nI_ge (by omega) (by omega)) (And.intro v1 (And.intro v2 (nm_r (e' := mr_fk (mr_gx h p s (i + 1)) (mr_OS h p) ok rk0) (by rw [c1, c2]; exact u ok rk0) (And.intro v1 (And.intro v2 (nm_r (e' := mr_fk (mr_gx h p s (i + 1)) (mr_OS h p) ov rv0) (by rw [c1, c2]; exact u ov rv0) (nm_r (nI_1 i) nx)))))))
theorem mr_x2 {post : Int32 → SX → Prop} (hp : 1 ≤ p) (hp4 : p ≤ 4) (hO : ∀ q, q ≤ 4 → os q = nI (mr_OS h p q))
    (C : ∀ rc', (∀ j, j < 4 → rc' j = nI (mr_cn h p j 16)) → (∀ j, 4 ≤ j → rc' j = rc0 j) → post oe (pc, bz, md, fa, fo, lw, hg, rd, bu, mp, sc, se, oe, rc', mr_fk (fun x => mr_cn h p x 16) (mr_OS h p) ok rk0, mr_fk (fun x => mr_cn h p x 16) (mr_OS h p) ov rv0, mf, rf, bk, bv, sk, sv, ps, hd, lm, os, ok, ov)) :
    ∀ (d s n : Nat) (rc : Nat → Int32), s + d = 4 → d < n → (∀ j, j < s → rc j = nI (mr_cn h p j 16)) → (∀ j, 4 ≤ j → rc j = rc0 j) → wX_feedBack_2 post pc bz md fa fo lw hg rd bu mp sc se oe n (nI s) rc (mr_fk (mr_gx h p s 0) (mr_OS h p) ok rk0) (mr_fk (mr_gx h p s 0) (mr_OS h p) ov rv0) mf rf bk bv sk sv ps hd lm os ok ov := by
  intro d
  induction d with
  | zero =>
    intro s n rc hs hn h1 h2
    obtain ⟨n, rfl⟩ : ∃ k, n = k + 1 := ⟨n - 1, by omega⟩
    have e : s = 4 := by omega
    subst e
    have c := C rc h1 h2
    have g : ∀ x, x < 4 → mr_cn h p x 16 = mr_gx h p 4 0 x := fun x hx => (if_pos hx).symm
    rw [← mr_fk_c (G := mr_gx h p 4 0) (src := ok) g, ← mr_fk_c (G := mr_gx h p 4 0) (src := ov) g] at c
    exact br_t (by decide) c
  | succ d ih =>
    intro s n rc hs hn h1 h2
    obtain ⟨n, rfl⟩ : ∃ k, n = k + 1 := ⟨n - 1, by omega⟩
    have hle := mr_cn_le (h := h) (p := p) (q := s) 16
    have v : vp_in (nI s) 5 := vp_in_nI (by omega) (by decide)
    have v4 : vp_in (nI s) 4 := vp_in_nI (by omega) (by decide)
    have v1 : vp_in (nI s + 1) 5 := by rw [nI_1]; exact vp_in_nI (by omega) (by decide)
    have hc : (nI s).toNatClampNeg = s := nI_clamp (by omega)
    have hc1 : (nI s + 1).toNatClampNeg = s + 1 := by rw [nI_1]; exact nI_clamp (by omega)
    have e : os (nI s + 1).toNatClampNeg - nI (mr_OS h p s) = nI (mr_cn h p s 16) := by
      rw [hc1, hO (s + 1) (by omega), pk_sub (mr_OS_m (by omega)), mr_OS_s, Nat.add_sub_cancel_left]
    have nx := ih (s + 1) n (upd rc s (nI (mr_cn h p s 16))) (by omega) (by omega) (lt_s (fun j hj => by rw [pk_un (by omega)]; exact h1 j hj) pk_us) (fun j hj => by rw [pk_un (by omega)]; exact h2 j hj)
    rw [mr_fk_c (G := mr_gx h p (s + 1) 0) (src := ok) (fun x _ => mr_gx_s.symm), mr_fk_c (G := mr_gx h p (s + 1) 0) (src := ov) (fun x _ => mr_gx_s.symm)] at nx
    refine br_f (nI_ge (b := 4) (by omega) (by decide)) (And.intro v (nm_r (e' := nI (mr_OS h p s)) (by rw [hc]; exact hO s (by omega)) (And.intro v1 (nm_r e (And.intro v4 (nm_r (e' := upd rc s (nI (mr_cn h p s 16))) (by rw [hc, mr_nb8 (by omega)]) (Exists.intro (mr_cn h p s 16 + 1) ?_)))))))
    exact mr_x36 hp hp4 (by omega) rfl nx (mr_cn h p s 16) 0 (mr_cn h p s 16 + 1) (by omega) (by omega)
end
section
variable {pt yd yf yo yl yh ym : Int32} {sz ks vs fl hs rs : Nat → Int32} {p : Nat} {h : Nat → Bool} {ks0 vs0 sz0 ok ov : Nat → Int32}
theorem mr_y24 {post : Int32 → SY → Prop} (hp : 1 ≤ p) (hp4 : p ≤ 4) (hH : ∀ k, k < 16 → hs k = mr_bi (h k)) (hO : ∀ k, k < 16 → h k = true → ok (mr_OS h p (k % p) + mr_cn h p (k % p) k) = nI k ∧ ov (mr_OS h p (k % p) + mr_cn h p (k % p) k) = rs k)
    (C : ∀ sz', (∀ j, j < 4 → sz' j = nI (mr_cn h p j 16)) → (∀ j, 4 ≤ j → sz' j = sz0 j) → post (nI (mr_tc h 16)) (nI p, yd, yf, yo, yl, yh, ym, sz', mr_fk (fun x => mr_cn h p x 16) (mr_OS h p) ok ks0, mr_fk (fun x => mr_cn h p x 16) (mr_OS h p) ov vs0, fl, hs, rs)) :
    ∀ (d k n : Nat) (sz : Nat → Int32), k + d = 16 → d < n → (∀ j, j < 4 → sz j = nI (mr_cn h p j k)) → (∀ j, 4 ≤ j → sz j = sz0 j) → wY_feedBack_24 post n (nI (mr_tc h k)) (nI k) (nI p) yd yf yo yl yh ym sz (mr_fk (fun x => mr_cn h p x k) (mr_OS h p) ok ks0) (mr_fk (fun x => mr_cn h p x k) (mr_OS h p) ov vs0) fl hs rs := by
  intro d
  induction d with
  | zero =>
    intro k n sz hk hn h1 h2
    obtain ⟨n, rfl⟩ : ∃ k, n = k + 1 := ⟨n - 1, by omega⟩
    have e : k = 16 := by omega
    subst e
    exact br_t (by decide) (C sz h1 h2)
  | succ d ih =>
    intro k n sz hk hn h1 h2
    obtain ⟨n, rfl⟩ : ∃ k, n = k + 1 := ⟨n - 1, by omega⟩
    have v : vp_in (nI k) 16 := vp_in_nI (by omega) (by decide)
    have hc : (nI k).toNatClampNeg = k := nI_clamp (by omega)
    have hm := Nat.mod_lt k (show p > 0 by omega)
    refine br_f (nI_ge (b := 16) (by omega) (by decide)) (And.intro v ?_)
    rw [hc, hH k (by omega)]
    by_cases c : h k = true
    · have hle := mr_cn_le (h := h) (p := p) (q := k % p) k
      refine br_f (by rw [c]; decide) (And.intro (nI_ne0 (by omega) (by omega)) (And.intro v ?_))
      rw [pk_rem (by omega) (by omega) (by omega)]
      obtain ⟨o1, o2⟩ := hO k (by omega) c
      refine mr_yadd (s := k % p) (c := mr_cn h p (k % p) k) (by omega) (by omega) (h1 _ (by omega)) ?_
      have ct := mr_cn_t c (rfl : k % p = k % p)
      have nx := ih (k + 1) n (upd sz (k % p) (nI (mr_cn h p (k % p) k + 1))) (by omega) (by omega) (fun j hj => by
        by_cases e : j = k % p
        · rw [e, pk_us, ct]
        · rw [pk_un e, h1 j hj, mr_cn_f (fun z => e z.2.symm)]) (fun j hj => by rw [pk_un (by omega)]; exact h2 j hj)
      have u : ∀ src old : Nat → Int32, upd (mr_fk (fun x => mr_cn h p x k) (mr_OS h p) src old) (16 * (k % p) + mr_cn h p (k % p) k) (src (mr_OS h p (k % p) + mr_cn h p (k % p) k)) = mr_fk (fun x => mr_cn h p x (k + 1)) (mr_OS h p) src old := by
        intro src old
        exact mr_fk_u (G := fun x => mr_cn h p x k) (G' := fun x => mr_cn h p x (k + 1)) (o := mr_OS h p) (src := src) (old := old) (s := k % p) (by omega) (by show mr_cn h p (k % p) k < 16; omega) ct (fun x _ hx => mr_cn_f (fun z => hx z.2.symm))
      rw [mr_tc_t c, ← u ok ks0, ← u ov vs0, o1, o2] at nx
      exact nm_r (nI_1 _) (nm_r (nI_1 k) nx)
    · have g : ∀ x, mr_cn h p x (k + 1) = mr_cn h p x k := fun x => mr_cn_f (fun z => c z.1)
      have nx := ih (k + 1) n sz (by omega) (by omega) (fun j hj => by rw [g]; exact h1 j hj) h2
      rw [mr_tc_f c, ← mr_fk_c (G := fun x => mr_cn h p x k) (G' := fun x => mr_cn h p x (k + 1)) (src := ok) (fun x _ => g x), ← mr_fk_c (G := fun x => mr_cn h p x k) (G' := fun x => mr_cn h p x (k + 1)) (src := ov) (fun x _ => g x)] at nx
      exact br_t (if_neg c) (nm_r (nI_1 k) nx)
theorem mr_y4 {post : Int32 → SY → Prop} {x1 : Int32} (C : ∀ sz', (∀ j, j < 4 → sz' j = 0) → (∀ j, 4 ≤ j → sz' j = sz0 j) → wY_feedBack_24 post 17 x1 0 pt yd yf yo yl yh ym sz' ks vs fl hs rs) :
    ∀ (d s n : Nat) (sz : Nat → Int32), s + d = 4 → d < n → (∀ j, j < s → sz j = 0) → (∀ j, 4 ≤ j → sz j = sz0 j) → wY_feedBack_4 post x1 pt yd yf yo yl yh ym n (nI s) sz ks vs fl hs rs := by
  intro d
  induction d with
  | zero =>
    intro s n sz hs' hn h1 h2
    obtain ⟨n, rfl⟩ : ∃ k, n = k + 1 := ⟨n - 1, by omega⟩
    have e : s = 4 := by omega
    subst e
    exact br_t (by decide) (Exists.intro 17 (C sz h1 h2))
  | succ d ih =>
    intro s n sz hs' hn h1 h2
    obtain ⟨n, rfl⟩ : ∃ k, n = k + 1 := ⟨n - 1, by omega⟩
    have v : vp_in (nI s) 4 := vp_in_nI (by omega) (by decide)
    have hc : (nI s).toNatClampNeg = s := nI_clamp (by omega)
    refine br_f (nI_ge (b := 4) (by omega) (by decide)) (And.intro v (nm_r (e' := upd sz s 0) (by rw [hc]) (nm_r (nI_1 s) ?_)))
    exact ih (s + 1) n _ (by omega) (by omega) (lt_s (fun j hj => by rw [pk_un (by omega)]; exact h1 j hj) pk_us) (fun j hj => by rw [pk_un (by omega)]; exact h2 j hj)
theorem mr_yfeed {post : Int32 → SY → Prop} (hp : 1 ≤ p) (hp4 : p ≤ 4) (hH : ∀ k, k < 16 → hs k = mr_bi (h k)) (hO : ∀ k, k < 16 → h k = true → ok (mr_OS h p (k % p) + mr_cn h p (k % p) k) = nI k ∧ ov (mr_OS h p (k % p) + mr_cn h p (k % p) k) = rs k)
    (C : ∀ sz', (∀ j, j < 4 → sz' j = nI (mr_cn h p j 16)) → (∀ j, 4 ≤ j → sz' j = sz j) → post (nI (mr_tc h 16)) (nI p, yd, yf, yo, yl, yh, ym, sz', mr_fk (fun x => mr_cn h p x 16) (mr_OS h p) ok ks, mr_fk (fun x => mr_cn h p x 16) (mr_OS h p) ov vs, fl, hs, rs)) :
    wpY_feedBack post (nI p, yd, yf, yo, yl, yh, ym, sz, ks, vs, fl, hs, rs) := by
  refine Exists.intro 5 (mr_y4 (sz0 := sz) ?_ 4 0 5 sz (by omega) (by omega) (fun j hj => absurd hj (Nat.not_lt_zero j)) (fun _ _ => rfl))
  intro sz' g1 g2
  have L := mr_y24 (post := post) (yd := yd) (yf := yf) (yo := yo) (yl := yl) (yh := yh) (ym := ym) (fl := fl) (ks0 := ks) (vs0 := vs) (sz0 := sz) hp hp4 hH hO C 16 0 17 sz' (by omega) (by omega) g1 g2
  rw [← mr_fk_0 (G := fun x => mr_cn h p x 0) (old := ks) (fun _ _ => rfl), ← mr_fk_0 (G := fun x => mr_cn h p x 0) (old := vs) (fun _ _ => rfl)] at L
  exact L
end
theorem i_vc_feedBack {k : Nat} {u : SX} {v : SY} (I : i_Rel k u v) (hk : k + 4 ≤ 2050) : wpX_feedBack (fun r u' => wpY_feedBack (fun r' v' => r' = r ∧ i_Rel (k + 4) u' v') v) u := by
  refine mr_el (Q := fun u v => wpX_feedBack (fun r u' => wpY_feedBack (fun r' v' => r' = r ∧ i_Rel (k + 4) u' v') v) u) I ?_
  intro p bs m h F fa fo lw hg rd bu mp sc se rc rk rv mf rf bk bv sk sv ps hd lm os ok ov fl hs rs a1 a2 a3 a4 a5 a6 b1 b2 b3
  have g0 : ∀ s, s < 4 → mr_gx h p 0 0 s = 0 := fun s hs => by
    unfold mr_gx
    rw [if_neg (Nat.not_lt_zero s)]
    by_cases e : s = 0
    · rw [if_pos e]
    · rw [if_neg e]
  refine Exists.intro 5 ?_
  rw [mr_fk_0 (G := mr_gx h p 0 0) (o := mr_OS h p) (src := ok) (old := rk) g0, mr_fk_0 (G := mr_gx h p 0 0) (o := mr_OS h p) (src := ov) (old := rv) g0]
  refine mr_x2 (rc0 := rc) a1 a2 b3.1 ?_ 4 0 5 rc (by omega) (by omega) (fun j hj => absurd hj (Nat.not_lt_zero j)) (fun _ _ => rfl)
  intro rc' g1 g2
  rw [← mr_fk_0 (G := mr_gx h p 0 0) (o := mr_OS h p) (src := ok) (old := rk) g0, ← mr_fk_0 (G := mr_gx h p 0 0) (o := mr_OS h p) (src := ov) (old := rv) g0]
  refine mr_yfeed (ok := ok) (ov := ov) a1 a2 b3.2.1 b3.2.2 ?_
  intro sz' k1 k2
  have e : sz' = rc' := by
    funext j
    by_cases c : j < 4
    · rw [k1 j c, g1 j c]
    · rw [k2 j (by omega), g2 j (by omega)]
  rw [e]
  exact ⟨by rw [mr_OS_4 a1 a2], mr_mk a1 a2 a3 a4 a5 a6 (fun j hj => ⟨_, mr_cn_le 16, g1 j hj⟩) b2 b3 rfl⟩
end
