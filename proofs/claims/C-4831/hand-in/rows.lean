section
theorem pk_us {f : Nat → Int32} {k : Nat} {x : Int32} : upd f k x k = x := if_pos rfl
theorem pk_un {f : Nat → Int32} {k j : Nat} {x : Int32} (h : j ≠ k) : upd f k x j = f j := if_neg h
theorem pk_sub {a b : Nat} (h : b ≤ a) : nI a - nI b = nI (a - b) := by
  obtain ⟨c, rfl⟩ : ∃ c, a = c + b := ⟨a - b, by omega⟩
  rw [← nI_add, Int32.add_sub_cancel, Nat.add_sub_cancel]
theorem pk_m1 (n : Nat) : nI (n + 1) + (-1) = nI n := by
  rw [← nI_1, Int32.add_assoc, show (1 : Int32) + (-1) = 0 from rfl, Int32.add_zero]
theorem pk_mul (a b : Nat) : nI a * nI b = nI (a * b) := (Int32.ofNat_mul a b).symm
theorem pk_div {a d : Nat} (ha : a < 2 ^ 31) (h0 : 0 < d) (hd : d < 2 ^ 31) : nI a / nI d = nI (a / d) := by
  apply Int32.toInt_inj.mp
  rw [lg_idiv_nonneg (by rw [nI_toInt ha]; omega) (by rw [nI_toInt hd]; omega), nI_toInt ha, nI_toInt hd, nI_toInt (Nat.lt_of_le_of_lt (Nat.div_le_self a d) ha)]
  first | rfl | exact (Int.natCast_ediv _ _).symm
theorem pk_rem {a d : Nat} (ha : a < 2 ^ 31) (h0 : 0 < d) (hd : d < 2 ^ 31) : nI a - nI a / nI d * nI d = nI (a % d) := by
  rw [pk_div ha h0 hd, pk_mul, pk_sub (Nat.div_mul_le_self a d)]
  exact congrArg nI (by have := Nat.div_add_mod' a d; omega)
theorem pk_sub_toInt {a b : Nat} (ha : a < 2 ^ 30) (hb : b < 2 ^ 30) : (nI a - nI b).toInt = (a : Int) - b := by
  rw [Int32.toInt_sub, nI_toInt (by omega), nI_toInt (by omega)]
  exact Int.bmod_eq_of_le (by omega) (by omega)
theorem pk_sneg {a b : Nat} (hb : b < 2 ^ 30) (h : a < b) : nI a - nI b < 0 := by
  rw [Int32.lt_iff_toInt_lt, pk_sub_toInt (by omega) hb, show (0 : Int32).toInt = 0 from by decide]
  omega
theorem pk_ix (x : Int32) {n : Nat} (hn : n < 2 ^ 31) : x < 0 ∨ nI n ≤ x ∨ ∃ j : Nat, j < n ∧ x = nI j := by
  by_cases h : x < 0
  · exact Or.inl h
  · obtain ⟨j, hj, rfl⟩ := nI_of h
    by_cases h2 : j < n
    · exact Or.inr (Or.inr ⟨j, h2, rfl⟩)
    · exact Or.inr (Or.inl (nI_le (by omega) hj))
theorem pk_le {x y : Int32} {A B : Prop} (a b : Nat) (f : a ≤ b → A) (g : b < a → B) (hx : x = nI a := by rfl) (hy : y = nI b := by rfl) (ha : a < 2 ^ 31 := by omega) (hb : b < 2 ^ 31 := by omega) : (x ≤ y → A) ∧ (¬ x ≤ y → B) := by
  subst hx hy
  rw [nI_leI ha hb]
  exact ⟨f, fun z => g (by omega)⟩
theorem pk_lt {x y : Int32} {A B : Prop} (a b : Nat) (f : a < b → A) (g : b ≤ a → B) (hx : x = nI a := by rfl) (hy : y = nI b := by rfl) (ha : a < 2 ^ 31 := by omega) (hb : b < 2 ^ 31 := by omega) : (x < y → A) ∧ (¬ x < y → B) := by
  subst hx hy
  rw [nI_ltI ha hb]
  exact ⟨f, fun z => g (by omega)⟩
theorem pk_eq {x y : Int32} {A B : Prop} (a b : Nat) (f : a = b → A) (g : a ≠ b → B) (hx : x = nI a := by rfl) (hy : y = nI b := by rfl) (ha : a < 2 ^ 31 := by omega) (hb : b < 2 ^ 31 := by omega) : (x = y → A) ∧ (¬ x = y → B) := by
  subst hx hy
  rw [nI_eq ha hb]
  exact ⟨f, g⟩
theorem pk_in {x : Int32} (n N : Nat) (h : n < N) (hx : x = nI n := by rfl) (hN : N < 2 ^ 31 := by omega) : vp_in x N := by
  subst hx
  exact vp_in_nI h hN
theorem pk_cl {x : Int32} (n : Nat) (hx : x = nI n := by rfl) (h : n < 2 ^ 31 := by omega) : x.toNatClampNeg = n := by
  subst hx
  exact nI_clamp h
theorem pk_tn {n : Nat} (h : n < 2 ^ 32) : (nI n).toBitVec.toNat = n := Nat.mod_eq_of_lt h
theorem pk_and (x : Int32) {m : Int32} (k : Nat) (hm : m.toBitVec.toNat = 2 ^ k - 1) : x &&& m = nI (x.toBitVec.toNat % 2 ^ k) := by
  apply Int32.toBitVec_inj.mp
  apply BitVec.eq_of_toNat_eq
  rw [Int32.toBitVec_and, BitVec.toNat_and, hm, Nat.and_two_pow_sub_one_eq_mod]
  show _ = (BitVec.ofNat 32 _).toNat
  rw [BitVec.toNat_ofNat]
  exact (Nat.mod_eq_of_lt (Nat.lt_of_le_of_lt (Nat.mod_le _ _) x.toBitVec.isLt)).symm
theorem pk_andN {n : Nat} (h : n < 2 ^ 32) {m : Int32} (k : Nat) (hm : m.toBitVec.toNat = 2 ^ k - 1) : nI n &&& m = nI (n % 2 ^ k) := by
  rw [pk_and _ k hm, pk_tn h]
theorem pk_andE (x : Int32) {m : Int32} (k : Nat) (hm : m.toBitVec.toNat = 2 ^ k - 1) : ∃ j : Nat, j < 2 ^ k ∧ x &&& m = nI j := ⟨_, Nat.mod_lt _ (Nat.two_pow_pos k), pk_and x k hm⟩
theorem pk_andIn (x : Int32) {m : Int32} (k : Nat) (hm : m.toBitVec.toNat = 2 ^ k - 1) (hk : k ≤ 30) : vp_in (x &&& m) (2 ^ k) := by
  obtain ⟨j, hj, e⟩ := pk_andE x k hm
  rw [e]
  exact vp_in_nI hj (Nat.lt_of_le_of_lt (Nat.pow_le_pow_right (by decide) hk) (by decide))
theorem pk_shl (a s : Int32) (k : Nat) (hs : (s.toBitVec.smod 32).toNat = k) : (a <<< s).toBitVec.toNat = a.toBitVec.toNat * 2 ^ k % 2 ^ 32 := by
  show (a.toBitVec <<< (s.toBitVec.smod 32).toNat).toNat = _
  rw [hs, BitVec.toNat_shiftLeft, Nat.shiftLeft_eq]
theorem pk_shlN {n : Nat} (s : Int32) (k : Nat) (hs : (s.toBitVec.smod 32).toNat = k) (h : n * 2 ^ k < 2 ^ 32) : nI n <<< s = nI (n * 2 ^ k) := by
  apply Int32.toBitVec_inj.mp
  apply BitVec.eq_of_toNat_eq
  have hn : n < 2 ^ 32 := Nat.lt_of_le_of_lt (Nat.le_mul_of_pos_right n (Nat.two_pow_pos k)) h
  rw [pk_shl _ _ k hs, pk_tn hn, pk_tn h, Nat.mod_eq_of_lt h]
theorem pk_shr (a s : Int32) (k : Nat) (hs : (s.toBitVec.smod 32).toNat = k) : (a >>> s).toInt = a.toInt >>> k := by
  show (a.toBitVec.sshiftRight (s.toBitVec.smod 32).toNat).toInt = _
  rw [hs, BitVec.toInt_sshiftRight]
  rfl
theorem pk_shrN {n : Nat} (h : n < 2 ^ 31) (s : Int32) (k : Nat) (hs : (s.toBitVec.smod 32).toNat = k) : nI n >>> s = nI (n / 2 ^ k) := by
  apply Int32.toInt_inj.mp
  have h2 : n / 2 ^ k ≤ n := Nat.div_le_self _ _
  rw [pk_shr _ _ k hs, nI_toInt h, nI_toInt (by omega), Int.shiftRight_eq_div_pow]
  rfl
theorem pk_ushr (x s : Int32) (k : Nat) (hs : ((s.toUInt32 &&& Int32.toUInt32 31).toBitVec % 32).toNat = k) : (x.toUInt32 >>> (s.toUInt32 &&& Int32.toUInt32 31)).toInt32.toBitVec.toNat = x.toBitVec.toNat / 2 ^ k := by
  have e : (x.toUInt32 >>> (s.toUInt32 &&& Int32.toUInt32 31)).toInt32.toBitVec = x.toBitVec >>> k := by
    rw [← hs]
    exact UInt32.toBitVec_shiftRight _ _
  rw [e, BitVec.toNat_ushiftRight, Nat.shiftRight_eq_div_pow]
theorem pk_ushrN {n : Nat} (hn : n < 2 ^ 32) (s : Int32) (k : Nat) (hs : ((s.toUInt32 &&& Int32.toUInt32 31).toBitVec % 32).toNat = k) : ((nI n).toUInt32 >>> (s.toUInt32 &&& Int32.toUInt32 31)).toInt32 = nI (n / 2 ^ k) := by
  apply Int32.toBitVec_inj.mp
  apply BitVec.eq_of_toNat_eq
  rw [pk_ushr _ s k hs, pk_tn hn, pk_tn (Nat.lt_of_le_of_lt (Nat.div_le_self _ _) hn)]
theorem pk_loop {σ : Type} (W : Nat → Nat → σ → Prop) (I : Nat → σ → Prop) (e i0 : Nat) (s : σ) (hi : i0 ≤ e) (h0 : I i0 s) (hx : ∀ n s, I e s → W (n + 1) e s)
    (hs : ∀ n i s, i < e → I i s → (∀ s', I (i + 1) s' → W n (i + 1) s') → W (n + 1) i s) : ∃ n, W n i0 s :=
  ⟨e + 1, loop_i W I e hx hs (e + 1) i0 s hi (by omega) h0⟩
theorem pk_loopD {σ : Type} (W : Nat → Nat → σ → Prop) (I : Nat → σ → Prop) (hx : ∀ n s, I 0 s → W (n + 1) 0 s)
    (hs : ∀ n i s, I (i + 1) s → (∀ s', I i s' → W n i s') → W (n + 1) (i + 1) s) : ∀ (e : Nat) (s : σ), I e s → W (e + 1) e s := by
  intro e
  induction e with
  | zero => exact fun s h => hx 0 s h
  | succ e ih => exact fun s h => hs (e + 1) e s h (fun s' h' => ih s' h')
theorem pk_least (P : Nat → Prop) (h : ∃ k, P k) : ∃ k, P k ∧ ∀ j, j < k → ¬ P j := by
  obtain ⟨k, hk⟩ := h
  induction k using Nat.strongRecOn with
  | ind k ih =>
    by_cases e : ∃ j, j < k ∧ P j
    · obtain ⟨j, hj, pj⟩ := e
      exact ih j hj pj
    · exact ⟨k, hk, fun j hj pj => e ⟨j, hj, pj⟩⟩
theorem nx_and (a b : Nat) : nI a &&& nI b = nI (a &&& b) := by
  apply Int32.toBitVec_inj.1
  show BitVec.ofNat 32 a &&& BitVec.ofNat 32 b = BitVec.ofNat 32 (a &&& b)
  apply BitVec.eq_of_getLsbD_eq
  intro i hi
  simp [hi]
theorem nx_xor (a b : Nat) : nI a ^^^ nI b = nI (a ^^^ b) := by
  apply Int32.toBitVec_inj.1
  show BitVec.ofNat 32 a ^^^ BitVec.ofNat 32 b = BitVec.ofNat 32 (a ^^^ b)
  apply BitVec.eq_of_getLsbD_eq
  intro i hi
  simp [hi]
theorem s_l : ∀ n, n < 32 → ((nI n &&& 31).toBitVec.smod 32).toNat = n := by decide +kernel
end
section
/-! pure: tables of naturals, sums, places and points, trees -/
/-- an array whose values are naturals -/
def qa_n (C : Nat → Nat) : Nat → Int32 := fun i => nI (C i)
def qa_u (C : Nat → Nat) (k v : Nat) : Nat → Nat := fun j => if j = k then v else C j
theorem qa_at (C : Nat → Nat) (i : Nat) : qa_n C i = nI (C i) := rfl
theorem qa_us (C : Nat → Nat) (k v : Nat) : qa_u C k v k = v := if_pos rfl
theorem qa_un (C : Nat → Nat) {k v j : Nat} (h : j ≠ k) : qa_u C k v j = C j := if_neg h
theorem qa_upd (C : Nat → Nat) (k v : Nat) : upd (qa_n C) k (nI v) = qa_n (qa_u C k v) := by
  funext j
  by_cases h : j = k
  · subst h; rw [pk_us, qa_at, qa_us]
  · rw [pk_un h, qa_at, qa_at, qa_un C h]
theorem qa_of (a : Nat → Int32) : ∃ C : Nat → Nat, a = qa_n C := by
  refine ⟨fun i => (a i).toBitVec.toNat, funext fun i => ?_⟩
  apply Int32.toBitVec_inj.mp
  apply BitVec.eq_of_toNat_eq
  show _ = (nI _).toBitVec.toNat
  rw [pk_tn (a i).toBitVec.isLt]
theorem qa_id (C : Nat → Nat) (k : Nat) : qa_u C k (C k) = C := by
  funext j
  by_cases h : j = k
  · subst h; rw [qa_us]
  · rw [qa_un C h]
/-! sums -/
def qp_sum (f : Nat → Nat) : Nat → Nat
  | 0 => 0
  | n + 1 => qp_sum f n + f n
theorem qp_sum_congr {f g : Nat → Nat} : ∀ n, (∀ i, i < n → f i = g i) → qp_sum f n = qp_sum g n := by
  intro n
  induction n with
  | zero => intro _; rfl
  | succ n ih => intro h; show _ + _ = _ + _; rw [ih (fun i hi => h i (by omega)), h n (by omega)]
theorem qp_sum_add (f : Nat → Nat) (a : Nat) : ∀ b, qp_sum f (a + b) = qp_sum f a + qp_sum (fun i => f (a + i)) b := by
  intro b
  induction b with
  | zero => rfl
  | succ b ih => show qp_sum f (a + b) + f (a + b) = _ + (_ + f (a + b)); rw [ih, Nat.add_assoc]
theorem qp_sum_le {f g : Nat → Nat} : ∀ n, (∀ i, i < n → f i ≤ g i) → qp_sum f n ≤ qp_sum g n := by
  intro n
  induction n with
  | zero => intro _; exact Nat.le_refl _
  | succ n ih => intro h; exact Nat.add_le_add (ih (fun i hi => h i (by omega))) (h n (by omega))
theorem qp_sum_b {f : Nat → Nat} (m : Nat) : ∀ n, (∀ i, i < n → f i ≤ m) → qp_sum f n ≤ m * n := by
  intro n
  induction n with
  | zero => intro _; exact Nat.le_refl _
  | succ n ih => intro h; have h1 := ih (fun i hi => h i (by omega)); have h2 := h n (by omega); show qp_sum f n + f n ≤ _; rw [Nat.mul_succ]; omega
theorem qp_sum_c (v : Nat) : ∀ n, qp_sum (fun _ => v) n = v * n := by
  intro n
  induction n with
  | zero => rfl
  | succ n ih => show _ + v = _; rw [ih, Nat.mul_succ]
theorem qp_sum_0 {f : Nat → Nat} : ∀ n, (∀ i, i < n → f i = 0) → qp_sum f n = 0 := by
  intro n h
  rw [qp_sum_congr n h, qp_sum_c, Nat.zero_mul]
theorem qp_sum_list (f : Nat → Nat) : ∀ n, qp_sum f n = ((List.range n).map f).sum := by
  intro n
  induction n with
  | zero => rfl
  | succ n ih => rw [List.range_succ, List.map_append, List.sum_append_nat, ← ih]; simp [qp_sum]
/-- the number of i below n with property p -/
def qp_cn (p : Nat → Bool) (n : Nat) : Nat := qp_sum (fun i => if p i then 1 else 0) n
theorem qp_cn_list (p : Nat → Bool) : ∀ n, qp_cn p n = ((List.range n).filter p).length := by
  intro n
  induction n with
  | zero => rfl
  | succ n ih =>
    rw [List.range_succ, List.filter_append, List.length_append, ← ih]
    show _ + _ = _
    cases h : p n <;> simp [h, qp_cn]
theorem qp_cn_congr {p q : Nat → Bool} (n : Nat) (h : ∀ i, i < n → p i = q i) : qp_cn p n = qp_cn q n :=
  qp_sum_congr n fun i hi => by rw [h i hi]
theorem qp_cn_inj {p q : Nat → Bool} {n m : Nat} (f : Nat → Nat) (h : ∀ i, i < n → p i = true → f i < m ∧ q (f i) = true) (hi : ∀ i j, i < n → j < n → p i = true → p j = true → f i = f j → i = j) : qp_cn p n ≤ qp_cn q m := by
  rw [qp_cn_list, qp_cn_list, ← List.length_map (f := f)]
  apply List.Nodup.length_le_of_subset
  · apply List.pairwise_map.mpr
    have hn : ((List.range n).filter p).Nodup := List.Pairwise.filter p List.nodup_range
    refine List.Pairwise.imp_of_mem ?_ hn
    intro a b ha hb hab e
    rw [List.mem_filter, List.mem_range] at ha hb
    exact hab (hi a b ha.1 hb.1 ha.2 hb.2 e)
  · intro x hx
    obtain ⟨a, ha, rfl⟩ := List.mem_map.mp hx
    rw [List.mem_filter, List.mem_range] at ha ⊢
    exact h a ha.1 ha.2
theorem qp_cn_mem (p : Nat → Bool) (n : Nat) (L : List Nat) (h : ∀ i, i < n → p i = true → i ∈ L) : qp_cn p n ≤ L.length := by
  rw [qp_cn_list]
  apply List.Nodup.length_le_of_subset (List.Pairwise.filter p List.nodup_range)
  intro x hx
  rw [List.mem_filter, List.mem_range] at hx
  exact h x hx.1 hx.2
theorem qp_cn_lt (p : Nat → Bool) : ∀ n, (∀ i, i < n → p i = true) → qp_cn p n = n := by
  intro n h
  show qp_sum _ n = n
  rw [qp_sum_congr (g := fun _ => 1) n (fun i hi => by rw [h i hi]; rfl), qp_sum_c, Nat.one_mul]
theorem qp_cn_le (p : Nat → Bool) (n : Nat) : qp_cn p n ≤ n := by
  have := qp_sum_b (f := fun i => if p i then 1 else 0) 1 n (fun i _ => by split <;> omega)
  rw [Nat.one_mul] at this
  exact this
theorem qp_cn_mono {p q : Nat → Bool} (n : Nat) (h : ∀ i, i < n → p i = true → q i = true) : qp_cn p n ≤ qp_cn q n :=
  qp_sum_le n fun i hi => by
    cases e : p i with
    | false => simp
    | true => rw [h i hi e]; exact Nat.le_refl _
/-- one more -/
theorem qp_cn_one {p q : Nat → Bool} {n k : Nat} (hk : k < n) (hp : p k = false) (hq : q k = true) (h : ∀ i, i < n → i ≠ k → p i = q i) : qp_cn q n = qp_cn p n + 1 := by
  obtain ⟨d, rfl⟩ : ∃ d, n = (k + 1) + d := ⟨n - (k + 1), by omega⟩
  show qp_sum _ _ = qp_sum _ _ + 1
  rw [qp_sum_add (fun i => if q i then 1 else 0) (k + 1) d, qp_sum_add (fun i => if p i then 1 else 0) (k + 1) d]
  show (qp_sum _ k + (if q k then 1 else 0)) + _ = (qp_sum _ k + (if p k then 1 else 0)) + _ + 1
  rw [hp, hq]
  have e1 : qp_sum (fun i => if q i then 1 else 0) k = qp_sum (fun i => if p i then 1 else 0) k := qp_sum_congr k fun i hi => by rw [h i (by omega) (by omega)]
  have e2 : qp_sum (fun i => if q (k + 1 + i) then 1 else 0) d = qp_sum (fun i => if p (k + 1 + i) then 1 else 0) d := qp_sum_congr d fun i hi => by rw [h (k + 1 + i) (by omega) (by omega)]
  rw [e1, e2]
  simp
  omega
/-- something is not counted -/
theorem qp_cn_ex {p : Nat → Bool} {n : Nat} (h : qp_cn p n < n) : ∃ i, i < n ∧ p i = false := by
  apply Classical.byContradiction
  intro z
  have := qp_cn_lt p n fun i hi => by
    cases e : p i with
    | true => rfl
    | false => exact absurd ⟨i, hi, e⟩ z
  omega
/-! places and points -/
def qp_bo (t : Nat) : Nat := 64 * (2 * (t / 128 % 2) + t / 8 % 2) + 16 * (2 * (t / 64 % 2) + t / 4 % 2) + 4 * (2 * (t / 32 % 2) + t / 2 % 2) + (2 * (t / 16 % 2) + t % 2)
def qp_po (k : Nat) : Nat := 16 * (8 * (k / 128 % 2) + 4 * (k / 32 % 2) + 2 * (k / 8 % 2) + k / 2 % 2) + (8 * (k / 64 % 2) + 4 * (k / 16 % 2) + 2 * (k / 4 % 2) + k % 2)
theorem qp_bo_lt (t : Nat) : qp_bo t < 256 := by unfold qp_bo; omega
theorem qp_po_lt (k : Nat) : qp_po k < 256 := by unfold qp_po; omega
theorem qp_bp : ∀ k, k < 256 → qp_bo (qp_po k) = k := by decide +kernel
theorem qp_pb : ∀ t, t < 256 → qp_po (qp_bo t) = t := by decide +kernel
theorem qp_perm : List.Perm ((List.range 256).map qp_bo) (List.range 256) := by decide +kernel
theorem qp_sum_perm (f : Nat → Nat) : qp_sum (fun t => f (qp_bo t)) 256 = qp_sum f 256 := by
  rw [qp_sum_list, qp_sum_list, show (fun t => f (qp_bo t)) = f ∘ qp_bo from rfl, ← List.map_map]
  exact (qp_perm.map f).sum_nat
theorem qp_bo_div (h : Nat) (hh : h ≤ 4) (t s : Nat) (ht : t < 256) (hs : s < 256) : qp_bo t / 4 ^ h = qp_bo s / 4 ^ h ↔ t / 16 / 2 ^ h = s / 16 / 2 ^ h ∧ t % 16 / 2 ^ h = s % 16 / 2 ^ h := by
  have key : ∀ h, h < 5 → ∀ t, t < 256 → qp_bo t / 4 ^ h = qp_bo (16 * (t / 16 / 2 ^ h) + t % 16 / 2 ^ h) := by decide +kernel
  rw [key h (by omega) t ht, key h (by omega) s hs]
  constructor
  · intro e
    have b1 : t / 16 / 2 ^ h ≤ t / 16 := Nat.div_le_self _ _
    have b2 : t % 16 / 2 ^ h ≤ t % 16 := Nat.div_le_self _ _
    have b3 : s / 16 / 2 ^ h ≤ s / 16 := Nat.div_le_self _ _
    have b4 : s % 16 / 2 ^ h ≤ s % 16 := Nat.div_le_self _ _
    have e2 := congrArg qp_po e
    generalize t / 16 / 2 ^ h = a1, t % 16 / 2 ^ h = a2, s / 16 / 2 ^ h = a3, s % 16 / 2 ^ h = a4 at *
    rw [qp_pb _ (by omega), qp_pb _ (by omega)] at e2
    omega
  · rintro ⟨e1, e2⟩
    rw [e1, e2]
theorem qp_bo_mod : ∀ h, h < 5 → ∀ t, t < 256 → (qp_bo t % 4 ^ h = 0 ↔ t / 16 % 2 ^ h = 0 ∧ t % 16 % 2 ^ h = 0) := by decide +kernel
end
section
/-! pure: trees in a table of children -/
/-- below n there are at most h further levels, within the table -/
def qp_tr (C : Nat → Nat) : Nat → Nat → Prop
  | 0, n => n ≤ 1
  | h + 1, n => n ≤ 1 ∨ (n < 460 ∧ ∀ q, q < 4 → qp_tr C h (C (4 * n + q)))
/-- the node that is met from n down h levels by the place k -/
def qp_ds (C : Nat → Nat) : Nat → Nat → Nat → Nat
  | 0, n, _ => n
  | h + 1, n, k => if n ≤ 1 then n else qp_ds C h (C (4 * n + k / 4 ^ h % 4)) k
/-- the height at which the way down ends -/
def qp_ht (C : Nat → Nat) : Nat → Nat → Nat → Nat
  | 0, _, _ => 0
  | h + 1, n, k => if n ≤ 1 then h + 1 else qp_ht C h (C (4 * n + k / 4 ^ h % 4)) k
def qp_ar (C : Nat → Nat) : Nat → Nat → Nat
  | 0, n => n
  | h + 1, n => if n ≤ 1 then n * 4 ^ (h + 1) else qp_ar C h (C (4 * n)) + qp_ar C h (C (4 * n + 1)) + qp_ar C h (C (4 * n + 2)) + qp_ar C h (C (4 * n + 3))
def qp_lf (C : Nat → Nat) : Nat → Nat → Nat
  | 0, _ => 1
  | h + 1, n => if n ≤ 1 then 1 else qp_lf C h (C (4 * n)) + qp_lf C h (C (4 * n + 1)) + qp_lf C h (C (4 * n + 2)) + qp_lf C h (C (4 * n + 3))
/-- the number of nodes seen on a walk over the tree -/
def qp_vs (C : Nat → Nat) : Nat → Nat → Nat
  | 0, _ => 1
  | h + 1, n => if n ≤ 1 then 1 else 1 + qp_vs C h (C (4 * n)) + qp_vs C h (C (4 * n + 1)) + qp_vs C h (C (4 * n + 2)) + qp_vs C h (C (4 * n + 3))
theorem qp_tr_le {C : Nat → Nat} {n : Nat} (h : Nat) (hn : n ≤ 1) : qp_tr C h n := by
  cases h with
  | zero => exact hn
  | succ h => exact Or.inl hn
theorem qp_tr_lt {C : Nat → Nat} {n h : Nat} (t : qp_tr C h n) : n < 460 := by
  cases h with
  | zero => have : n ≤ 1 := t; omega
  | succ h =>
    rcases t with t | t
    · omega
    · exact t.1
theorem qp_tr_c {C : Nat → Nat} {n h : Nat} (t : qp_tr C (h + 1) n) (hn : ¬ n ≤ 1) : ∀ q, q < 4 → qp_tr C h (C (4 * n + q)) := by
  rcases t with t | t
  · exact absurd t hn
  · exact t.2
theorem qp_tr_up {C : Nat → Nat} : ∀ (h n : Nat), qp_tr C h n → qp_tr C (h + 1) n := by
  intro h
  induction h with
  | zero => intro n t; exact Or.inl t
  | succ h ih =>
    intro n t
    by_cases hn : n ≤ 1
    · exact Or.inl hn
    · exact Or.inr ⟨qp_tr_lt t, fun q hq => ih _ (qp_tr_c t hn q hq)⟩
theorem qp_ds_le {C : Nat → Nat} {n : Nat} (h k : Nat) (hn : n ≤ 1) : qp_ds C h n k = n := by
  cases h with
  | zero => rfl
  | succ h => exact if_pos hn
theorem qp_ds_s {C : Nat → Nat} {n : Nat} (h k : Nat) (hn : ¬ n ≤ 1) : qp_ds C (h + 1) n k = qp_ds C h (C (4 * n + k / 4 ^ h % 4)) k := if_neg hn
theorem qp_ht_s {C : Nat → Nat} {n : Nat} (h k : Nat) (hn : ¬ n ≤ 1) : qp_ht C (h + 1) n k = qp_ht C h (C (4 * n + k / 4 ^ h % 4)) k := if_neg hn
theorem qp_ht_e {C : Nat → Nat} {n : Nat} (h k : Nat) (hn : n ≤ 1) : qp_ht C h n k = h := by
  cases h with
  | zero => rfl
  | succ h => exact if_pos hn
theorem qp_ds_01 {C : Nat → Nat} : ∀ (h n k : Nat), qp_tr C h n → qp_ds C h n k ≤ 1 := by
  intro h
  induction h with
  | zero => intro n k t; exact t
  | succ h ih =>
    intro n k t
    by_cases hn : n ≤ 1
    · rw [qp_ds_le _ _ hn]; exact hn
    · rw [qp_ds_s _ _ hn]; exact ih _ _ (qp_tr_c t hn _ (Nat.mod_lt _ (by decide)))
theorem qp_ds_mod {C : Nat → Nat} : ∀ (h n q r : Nat), qp_ds C h n (q * 4 ^ h + r) = qp_ds C h n r := by
  intro h
  induction h with
  | zero => intro n q r; rfl
  | succ h ih =>
    intro n q r
    by_cases hn : n ≤ 1
    · rw [qp_ds_le _ _ hn, qp_ds_le _ _ hn]
    · rw [qp_ds_s _ _ hn, qp_ds_s _ _ hn]
      have e : q * 4 ^ (h + 1) + r = (q * 4) * 4 ^ h + r := by rw [Nat.pow_succ, Nat.mul_assoc, Nat.mul_comm 4]
      have p : 0 < 4 ^ h := Nat.pow_pos (by decide)
      rw [e, ih, Nat.add_comm ((q * 4) * 4 ^ h) r, Nat.add_mul_div_right _ _ p, Nat.add_mul_mod_self_right]
theorem qp_ht_le {C : Nat → Nat} : ∀ (h n k : Nat), qp_ht C h n k ≤ h := by
  intro h
  induction h with
  | zero => intro n k; exact Nat.le_refl _
  | succ h ih =>
    intro n k
    by_cases hn : n ≤ 1
    · rw [qp_ht_e _ _ hn]; exact Nat.le_refl _
    · rw [qp_ht_s _ _ hn]; exact Nat.le_succ_of_le (ih _ _)
theorem qp_ht_mod {C : Nat → Nat} : ∀ (h n q r : Nat), qp_ht C h n (q * 4 ^ h + r) = qp_ht C h n r := by
  intro h
  induction h with
  | zero => intro n q r; rfl
  | succ h ih =>
    intro n q r
    by_cases hn : n ≤ 1
    · rw [qp_ht_e _ _ hn, qp_ht_e _ _ hn]
    · rw [qp_ht_s _ _ hn, qp_ht_s _ _ hn]
      have e : q * 4 ^ (h + 1) + r = (q * 4) * 4 ^ h + r := by rw [Nat.pow_succ, Nat.mul_assoc, Nat.mul_comm 4]
      have p : 0 < 4 ^ h := Nat.pow_pos (by decide)
      rw [e, ih, Nat.add_comm ((q * 4) * 4 ^ h) r, Nat.add_mul_div_right _ _ p, Nat.add_mul_mod_self_right]
/-- a place of quarter q -/
theorem qp_q {h q r : Nat} (hq : q < 4) (hr : r < 4 ^ h) : (q * 4 ^ h + r) / 4 ^ h % 4 = q := by
  have p : 0 < 4 ^ h := Nat.pow_pos (by decide)
  rw [Nat.add_comm, Nat.add_mul_div_right _ _ p, Nat.div_eq_of_lt hr]
  omega
theorem qp_4 (h : Nat) : 4 ^ (h + 1) = 4 ^ h + 4 ^ h + 4 ^ h + 4 ^ h := by rw [Nat.pow_succ]; omega
theorem qp_ds_q {C : Nat → Nat} {h n q r : Nat} (hn : ¬ n ≤ 1) (hq : q < 4) (hr : r < 4 ^ h) : qp_ds C (h + 1) n (q * 4 ^ h + r) = qp_ds C h (C (4 * n + q)) r := by
  rw [qp_ds_s _ _ hn, qp_q hq hr, qp_ds_mod]
theorem qp_ht_q {C : Nat → Nat} {h n q r : Nat} (hn : ¬ n ≤ 1) (hq : q < 4) (hr : r < 4 ^ h) : qp_ht C (h + 1) n (q * 4 ^ h + r) = qp_ht C h (C (4 * n + q)) r := by
  rw [qp_ht_s _ _ hn, qp_q hq hr, qp_ht_mod]
/-- a sum over four quarters -/
theorem qp_sum4 (f : Nat → Nat) (h : Nat) : qp_sum f (4 ^ (h + 1)) = qp_sum (fun r => f (0 * 4 ^ h + r)) (4 ^ h) + qp_sum (fun r => f (1 * 4 ^ h + r)) (4 ^ h) + qp_sum (fun r => f (2 * 4 ^ h + r)) (4 ^ h) + qp_sum (fun r => f (3 * 4 ^ h + r)) (4 ^ h) := by
  rw [qp_4, qp_sum_add, qp_sum_add, qp_sum_add]
  simp only [Nat.zero_mul, Nat.zero_add, Nat.one_mul]
  rw [show 2 * 4 ^ h = 4 ^ h + 4 ^ h by omega, show 3 * 4 ^ h = 4 ^ h + 4 ^ h + 4 ^ h by omega]
theorem qp_ar_sum {C : Nat → Nat} : ∀ (h n : Nat), qp_ar C h n = qp_sum (fun r => qp_ds C h n r) (4 ^ h) := by
  intro h
  induction h with
  | zero => intro n; show n = 0 + n; omega
  | succ h ih =>
    intro n
    by_cases hn : n ≤ 1
    · rw [qp_sum_congr (g := fun _ => n) _ (fun i _ => qp_ds_le _ _ hn), qp_sum_c]
      exact if_pos hn
    · rw [qp_sum4]
      rw [qp_sum_congr (4 ^ h) (fun r hr => qp_ds_q (q := 0) hn (by decide) hr), qp_sum_congr (4 ^ h) (fun r hr => qp_ds_q (q := 1) hn (by decide) hr), qp_sum_congr (4 ^ h) (fun r hr => qp_ds_q (q := 2) hn (by decide) hr), qp_sum_congr (4 ^ h) (fun r hr => qp_ds_q (q := 3) hn (by decide) hr)]
      rw [← ih, ← ih, ← ih, ← ih]
      exact if_neg hn
theorem qp_vs_pos {C : Nat → Nat} (h n : Nat) : 1 ≤ qp_vs C h n := by
  cases h with
  | zero => exact Nat.le_refl _
  | succ h => show 1 ≤ (if n ≤ 1 then 1 else _); split <;> omega
theorem qp_vs_s {C : Nat → Nat} {n : Nat} (h : Nat) (hn : ¬ n ≤ 1) : qp_vs C (h + 1) n = 1 + qp_vs C h (C (4 * n)) + qp_vs C h (C (4 * n + 1)) + qp_vs C h (C (4 * n + 2)) + qp_vs C h (C (4 * n + 3)) := if_neg hn
theorem qp_vs_e {C : Nat → Nat} {n : Nat} (h : Nat) (hn : n ≤ 1) : qp_vs C h n = 1 := by
  cases h with
  | zero => rfl
  | succ h => exact if_pos hn
theorem qp_ar_s {C : Nat → Nat} {n : Nat} (h : Nat) (hn : ¬ n ≤ 1) : qp_ar C (h + 1) n = qp_ar C h (C (4 * n)) + qp_ar C h (C (4 * n + 1)) + qp_ar C h (C (4 * n + 2)) + qp_ar C h (C (4 * n + 3)) := if_neg hn
theorem qp_ar_e {C : Nat → Nat} {n : Nat} (h : Nat) (hn : n ≤ 1) : qp_ar C h n = n * 4 ^ h := by
  cases h with
  | zero => show n = n * 1; omega
  | succ h => exact if_pos hn
theorem qp_vs_4 (C : Nat → Nat) (n : Nat) : qp_vs C 4 n ≤ 341 := by
  have h0 : ∀ n, qp_vs C 0 n ≤ 1 := fun n => Nat.le_refl _
  have h1 : ∀ n, qp_vs C 1 n ≤ 5 := fun n => by
    by_cases hn : n ≤ 1
    · rw [qp_vs_e _ hn]; omega
    · rw [qp_vs_s _ hn]; have a := h0 (C (4 * n)); have b := h0 (C (4 * n + 1)); have c := h0 (C (4 * n + 2)); have d := h0 (C (4 * n + 3)); omega
  have h2 : ∀ n, qp_vs C 2 n ≤ 21 := fun n => by
    by_cases hn : n ≤ 1
    · rw [qp_vs_e _ hn]; omega
    · rw [qp_vs_s _ hn]; have a := h1 (C (4 * n)); have b := h1 (C (4 * n + 1)); have c := h1 (C (4 * n + 2)); have d := h1 (C (4 * n + 3)); omega
  have h3 : ∀ n, qp_vs C 3 n ≤ 85 := fun n => by
    by_cases hn : n ≤ 1
    · rw [qp_vs_e _ hn]; omega
    · rw [qp_vs_s _ hn]; have a := h2 (C (4 * n)); have b := h2 (C (4 * n + 1)); have c := h2 (C (4 * n + 2)); have d := h2 (C (4 * n + 3)); omega
  by_cases hn : n ≤ 1
  · rw [qp_vs_e _ hn]; omega
  · rw [qp_vs_s _ hn]; have a := h3 (C (4 * n)); have b := h3 (C (4 * n + 1)); have c := h3 (C (4 * n + 2)); have d := h3 (C (4 * n + 3)); omega
/-- one multiple of N below N -/
theorem qp_sum_m1 : ∀ N, 0 < N → qp_sum (fun k => if k % N = 0 then 1 else 0) N = 1 := by
  intro N hN
  obtain ⟨d, rfl⟩ : ∃ d, N = 1 + d := ⟨N - 1, by omega⟩
  rw [qp_sum_add, qp_sum_0 d (fun i hi => by rw [Nat.mod_eq_of_lt (by omega)]; exact if_neg (by omega))]
  show 0 + (if 0 % (1 + d) = 0 then 1 else 0) + 0 = 1
  rw [Nat.zero_mod]; rfl
/-- the leaves are counted by the first places of their blocks -/
theorem qp_lf_sum {C : Nat → Nat} : ∀ (h n : Nat), qp_lf C h n = qp_sum (fun k => if k % 4 ^ qp_ht C h n k = 0 then 1 else 0) (4 ^ h) := by
  intro h
  induction h with
  | zero => intro n; rfl
  | succ h ih =>
    intro n
    by_cases hn : n ≤ 1
    · rw [qp_sum_congr (g := fun k => if k % 4 ^ (h + 1) = 0 then 1 else 0) _ (fun i _ => by rw [qp_ht_e _ _ hn]), qp_sum_m1 _ (Nat.pow_pos (by decide))]
      exact if_pos hn
    · rw [qp_sum4]
      have key : ∀ q, q < 4 → qp_sum (fun r => if (q * 4 ^ h + r) % 4 ^ qp_ht C (h + 1) n (q * 4 ^ h + r) = 0 then 1 else 0) (4 ^ h) = qp_lf C h (C (4 * n + q)) := by
        intro q hq
        rw [ih]
        refine qp_sum_congr _ fun r hr => ?_
        rw [qp_ht_q hn hq hr]
        have hl := qp_ht_le (C := C) h (C (4 * n + q)) r
        obtain ⟨d, hd⟩ : ∃ d, h = d + qp_ht C h (C (4 * n + q)) r := ⟨_, (Nat.sub_add_cancel hl).symm⟩
        have e : q * 4 ^ h + r = r + (q * 4 ^ d) * 4 ^ qp_ht C h (C (4 * n + q)) r := by
          rw [Nat.mul_assoc, ← Nat.pow_add, ← hd, Nat.add_comm]
        rw [e, Nat.add_mul_mod_self_right]
      rw [key 0 (by decide), key 1 (by decide), key 2 (by decide), key 3 (by decide)]
      exact if_neg hn
end
section
/-! pure: nodes in use, equal nodes are one, heights of tiles -/
noncomputable def qp_b (P : Prop) : Bool := @decide P (Classical.propDecidable P)
theorem qp_bt {P : Prop} : qp_b P = true ↔ P := by
  unfold qp_b
  exact @decide_eq_true_iff P (Classical.propDecidable P)
theorem qp_bf {P : Prop} : qp_b P = false ↔ ¬ P := by
  unfold qp_b
  exact @decide_eq_false_iff_not P (Classical.propDecidable P)
theorem qp_bc {P Q : Prop} (h : P ↔ Q) : qp_b P = qp_b Q := by rw [propext h]
def qp_cl (C U : Nat → Nat) : Prop := ∀ n, 2 ≤ n → n < 460 → U n = 1 → ∀ q, q < 4 → C (4 * n + q) < 460 ∧ U (C (4 * n + q)) = 1
def qp_can (C U : Nat → Nat) : Prop := ∀ n, 2 ≤ n → n < 460 → U n = 1 → ¬ (C (4 * n) ≤ 1 ∧ C (4 * n + 1) = C (4 * n) ∧ C (4 * n + 2) = C (4 * n) ∧ C (4 * n + 3) = C (4 * n))
def qp_un (C U : Nat → Nat) : Prop := ∀ n m, 2 ≤ n → n < 460 → 2 ≤ m → m < 460 → U n = 1 → U m = 1 → (∀ q, q < 4 → C (4 * n + q) = C (4 * m + q)) → n = m
def qp_tl (T : Nat → Nat) (c : Nat) : Nat := if c ≤ 1 then 1 else T c
def qp_tc (C U T : Nat → Nat) : Prop := ∀ n, 2 ≤ n → n < 460 → U n = 1 → T n = qp_tl T (C (4 * n)) + qp_tl T (C (4 * n + 1)) + qp_tl T (C (4 * n + 2)) + qp_tl T (C (4 * n + 3))
theorem qp_eq1 {C U : Nat → Nat} (cl : qp_cl C U) (can : qp_can C U) : ∀ (h v b : Nat), v ≤ 1 → qp_tr C h b → U b = 1 → (∀ r, r < 4 ^ h → qp_ds C h b r = v) → b = v := by
  intro h
  induction h with
  | zero => intro v b _ _ _ e; exact e 0 (by decide)
  | succ h ih =>
    intro v b hv t ub e
    by_cases hb : b ≤ 1
    · have := e 0 (Nat.pow_pos (by decide))
      rw [qp_ds_le _ _ hb] at this
      exact this
    · have kid : ∀ q, q < 4 → C (4 * b + q) = v := by
        intro q hq
        have c := cl b (by omega) (qp_tr_lt t) ub q hq
        refine ih v _ hv (qp_tr_c t hb q hq) c.2 fun r hr => ?_
        rw [← qp_ds_q hb hq hr]
        refine e _ ?_
        rw [qp_4]
        have : q * 4 ^ h ≤ 3 * 4 ^ h := Nat.mul_le_mul_right _ (by omega)
        omega
      have k0 := kid 0 (by decide)
      have k1 := kid 1 (by decide)
      have k2 := kid 2 (by decide)
      have k3 := kid 3 (by decide)
      rw [Nat.add_zero] at k0
      exact absurd ⟨by omega, by omega, by omega, by omega⟩ (can b (by omega) (qp_tr_lt t) ub)
theorem qp_eq {C U : Nat → Nat} (cl : qp_cl C U) (can : qp_can C U) (un : qp_un C U) : ∀ (h a b : Nat), qp_tr C h a → qp_tr C h b → U a = 1 → U b = 1 → (∀ r, r < 4 ^ h → qp_ds C h a r = qp_ds C h b r) → a = b := by
  intro h
  induction h with
  | zero => intro a b _ _ _ _ e; exact e 0 (by decide)
  | succ h ih =>
    intro a b ta tb ua ub e
    by_cases ha : a ≤ 1
    · exact (qp_eq1 cl can _ a b ha tb ub fun r hr => by rw [← e r hr, qp_ds_le _ _ ha]).symm
    · by_cases hb : b ≤ 1
      · exact qp_eq1 cl can _ b a hb ta ua fun r hr => by rw [e r hr, qp_ds_le _ _ hb]
      · refine un a b (by omega) (qp_tr_lt ta) (by omega) (qp_tr_lt tb) ua ub fun q hq => ?_
        refine ih _ _ (qp_tr_c ta ha q hq) (qp_tr_c tb hb q hq) (cl a (by omega) (qp_tr_lt ta) ua q hq).2 (cl b (by omega) (qp_tr_lt tb) ub q hq).2 fun r hr => ?_
        rw [← qp_ds_q ha hq hr, ← qp_ds_q hb hq hr]
        refine e _ ?_
        rw [qp_4]
        have : q * 4 ^ h ≤ 3 * 4 ^ h := Nat.mul_le_mul_right _ (by omega)
        omega
theorem qp_T {C U T : Nat → Nat} (cl : qp_cl C U) (tc : qp_tc C U T) : ∀ (h n : Nat), qp_tr C h n → U n = 1 → qp_tl T n = qp_lf C h n := by
  intro h
  induction h with
  | zero => intro n t _; exact if_pos t
  | succ h ih =>
    intro n t u
    by_cases hn : n ≤ 1
    · show (if n ≤ 1 then 1 else T n) = (if n ≤ 1 then 1 else _)
      rw [if_pos hn, if_pos hn]
    · show (if n ≤ 1 then 1 else T n) = (if n ≤ 1 then 1 else _)
      have c := cl n (by omega) (qp_tr_lt t) u
      rw [if_neg hn, if_neg hn, tc n (by omega) (qp_tr_lt t) u, ih (C (4 * n)) (qp_tr_c t hn 0 (by decide)) (c 0 (by decide)).2, ih _ (qp_tr_c t hn 1 (by decide)) (c 1 (by decide)).2, ih _ (qp_tr_c t hn 2 (by decide)) (c 2 (by decide)).2, ih _ (qp_tr_c t hn 3 (by decide)) (c 3 (by decide)).2]
/-- equal blocks are equal in greater ones -/
theorem qp_dv {a b t h : Nat} (ht : t ≤ h) (e : a / 4 ^ t = b / 4 ^ t) : a / 4 ^ h = b / 4 ^ h := by
  obtain ⟨d, rfl⟩ : ∃ d, h = t + d := ⟨h - t, by omega⟩
  rw [Nat.pow_add, ← Nat.div_div_eq_div_mul, ← Nat.div_div_eq_div_mul, e]
theorem qp_ht_a {C : Nat → Nat} : ∀ (h n k j : Nat), j / 4 ^ qp_ht C h n k = k / 4 ^ qp_ht C h n k → qp_ds C h n j = qp_ds C h n k := by
  intro h
  induction h with
  | zero => intro n k j _; rfl
  | succ h ih =>
    intro n k j e
    by_cases hn : n ≤ 1
    · rw [qp_ds_le _ _ hn, qp_ds_le _ _ hn]
    · rw [qp_ht_s _ _ hn] at e
      have e2 := qp_dv (qp_ht_le h _ k) e
      rw [qp_ds_s _ _ hn, qp_ds_s _ _ hn, e2]
      exact ih _ _ _ e
theorem qp_ht_b {C U : Nat → Nat} (cl : qp_cl C U) (can : qp_can C U) : ∀ (h n k : Nat), qp_tr C h n → U n = 1 → ∀ g, qp_ht C h n k < g → g ≤ h → ∃ j, j / 4 ^ g = k / 4 ^ g ∧ qp_ds C h n j ≠ qp_ds C h n k := by
  intro h
  induction h with
  | zero => intro n k _ _ g h1 h2; omega
  | succ h ih =>
    intro n k t u g h1 h2
    by_cases hn : n ≤ 1
    · rw [qp_ht_e _ _ hn] at h1; omega
    · have hq : k / 4 ^ h % 4 < 4 := Nat.mod_lt _ (by decide)
      rw [qp_ht_s _ _ hn] at h1
      by_cases hg : g ≤ h
      · obtain ⟨j, j1, j2⟩ := ih _ k (qp_tr_c t hn _ hq) (cl n (by omega) (qp_tr_lt t) u _ hq).2 g h1 hg
        have e2 := qp_dv hg j1
        refine ⟨j, j1, ?_⟩
        rw [qp_ds_s _ _ hn, qp_ds_s _ _ hn, e2]
        exact j2
      · have hg : g = h + 1 := by omega
        subst hg
        apply Classical.byContradiction
        intro z
        have all : ∀ r, r < 4 ^ (h + 1) → qp_ds C (h + 1) n r = qp_ds C (h + 1) n k := by
          intro r hr
          apply Classical.byContradiction
          intro w
          refine z ⟨k / 4 ^ (h + 1) * 4 ^ (h + 1) + r, ?_, ?_⟩
          · rw [Nat.add_comm, Nat.add_mul_div_right _ _ (Nat.pow_pos (by decide)), Nat.div_eq_of_lt hr, Nat.zero_add]
          · rw [qp_ds_mod]; exact w
        have := qp_eq1 cl can (h + 1) _ n (qp_ds_01 _ _ k t) t u all
        have := qp_ds_01 _ _ k t
        omega
/-- all points of the block of height h around t are alike -/
def qp_e (g : Nat → Nat) (t h : Nat) : Prop := ∀ s, s < 256 → qp_bo s / 4 ^ h = qp_bo t / 4 ^ h → g s = g t
noncomputable def qp_H (g : Nat → Nat) (t : Nat) : Nat := if qp_b (qp_e g t 4) then 4 else if qp_b (qp_e g t 3) then 3 else if qp_b (qp_e g t 2) then 2 else if qp_b (qp_e g t 1) then 1 else 0
theorem qp_H_is {g : Nat → Nat} {t h : Nat} (h4 : h ≤ 4) (a : qp_e g t h) (b : ∀ j, h < j → j ≤ 4 → ¬ qp_e g t j) : qp_H g t = h := by
  unfold qp_H
  have tt : ∀ {P : Prop}, P → qp_b P = true := fun p => qp_bt.mpr p
  have ff : ∀ {P : Prop}, ¬ P → qp_b P = false := fun p => qp_bf.mpr p
  match h, h4 with
  | 4, _ => rw [tt a]; rfl
  | 3, _ => rw [ff (b 4 (by omega) (by omega)), tt a]; rfl
  | 2, _ => rw [ff (b 4 (by omega) (by omega)), ff (b 3 (by omega) (by omega)), tt a]; rfl
  | 1, _ => rw [ff (b 4 (by omega) (by omega)), ff (b 3 (by omega) (by omega)), ff (b 2 (by omega) (by omega)), tt a]; rfl
  | 0, _ => rw [ff (b 4 (by omega) (by omega)), ff (b 3 (by omega) (by omega)), ff (b 2 (by omega) (by omega)), ff (b 1 (by omega) (by omega))]; rfl
theorem qp_H_le (g : Nat → Nat) (t : Nat) : qp_H g t ≤ 4 := by
  unfold qp_H
  split
  · omega
  · split
    · omega
    · split
      · omega
      · split <;> omega
theorem qp_H_ht {C U : Nat → Nat} (cl : qp_cl C U) (can : qp_can C U) {n : Nat} (tr : qp_tr C 4 n) (u : U n = 1) {g : Nat → Nat} (hg : ∀ t, t < 256 → g t = qp_ds C 4 n (qp_bo t)) {t : Nat} (ht : t < 256) : qp_H g t = qp_ht C 4 n (qp_bo t) := by
  apply qp_H_is (qp_ht_le _ _ _)
  · intro s hs e
    rw [hg s hs, hg t ht]
    exact qp_ht_a 4 n (qp_bo t) (qp_bo s) e
  · intro j h1 h2 z
    obtain ⟨i, i1, i2⟩ := qp_ht_b cl can 4 n (qp_bo t) tr u j h1 h2
    have b := qp_bo_lt t
    have i3 : i / 4 ^ 4 = qp_bo t / 4 ^ 4 := qp_dv h2 i1
    have i4 : i < 256 := by
      rw [show (4 : Nat) ^ 4 = 256 from rfl] at i3
      omega
    have := z (qp_po i) (qp_po_lt i) (by rw [qp_bp i i4]; exact i1)
    rw [hg _ (qp_po_lt i), hg t ht, qp_bp i i4] at this
    exact i2 this
/-- the number of tiles of a size (0: of all) -/
noncomputable def qp_tal (g : Nat → Nat) (z : Nat) : Nat := qp_sum (fun t => if t / 16 % 2 ^ qp_H g t = 0 ∧ t % 16 % 2 ^ qp_H g t = 0 ∧ (z = 0 ∨ z = 2 ^ qp_H g t) then 1 else 0) 256
theorem qp_tal_k {C U : Nat → Nat} (cl : qp_cl C U) (can : qp_can C U) {n : Nat} (tr : qp_tr C 4 n) (u : U n = 1) {g : Nat → Nat} (hg : ∀ t, t < 256 → g t = qp_ds C 4 n (qp_bo t)) (z : Nat) : qp_tal g z = qp_sum (fun k => if k % 4 ^ qp_ht C 4 n k = 0 ∧ (z = 0 ∨ z = 2 ^ qp_ht C 4 n k) then 1 else 0) 256 := by
  unfold qp_tal
  rw [← qp_sum_perm (fun k => if k % 4 ^ qp_ht C 4 n k = 0 ∧ (z = 0 ∨ z = 2 ^ qp_ht C 4 n k) then 1 else 0)]
  refine qp_sum_congr _ fun t ht => ?_
  rw [qp_H_ht cl can tr u hg ht]
  have m := qp_bo_mod (qp_ht C 4 n (qp_bo t)) (by have := qp_ht_le (C := C) 4 n (qp_bo t); omega) t ht
  by_cases c : qp_bo t % 4 ^ qp_ht C 4 n (qp_bo t) = 0
  · obtain ⟨m1, m2⟩ := m.mp c
    simp only [m1, m2, c, true_and]
  · rw [if_neg (fun w => c (m.mpr ⟨w.1, w.2.1⟩)), if_neg (fun w => c w.1)]
theorem qp_tal_0 {C U : Nat → Nat} (cl : qp_cl C U) (can : qp_can C U) {n : Nat} (tr : qp_tr C 4 n) (u : U n = 1) {g : Nat → Nat} (hg : ∀ t, t < 256 → g t = qp_ds C 4 n (qp_bo t)) : qp_lf C 4 n = qp_tal g 0 := by
  rw [qp_tal_k cl can tr u hg, qp_lf_sum]
  refine qp_sum_congr _ fun k _ => ?_
  simp
theorem qp_sum_blk (P : Nat → Prop) {M : Nat} (hM : 0 < M) : ∀ N, qp_sum (fun k => if qp_b (k % M = 0 ∧ P k) then 1 else 0) (N * M) = qp_sum (fun k => if qp_b (P (k * M)) then 1 else 0) N := by
  intro N
  induction N with
  | zero => rw [Nat.zero_mul]; rfl
  | succ N ih =>
    rw [Nat.succ_mul, qp_sum_add, ih]
    obtain ⟨d, rfl⟩ : ∃ d, M = 1 + d := ⟨M - 1, by omega⟩
    have z : qp_sum (fun i => if qp_b ((N * (1 + d) + (1 + i)) % (1 + d) = 0 ∧ P (N * (1 + d) + (1 + i))) then 1 else 0) d = 0 := by
      refine qp_sum_0 d fun i hi => ?_
      rw [Nat.add_comm (N * (1 + d)), Nat.add_mul_mod_self_right, Nat.mod_eq_of_lt (by omega : 1 + i < 1 + d), qp_bf.mpr (fun w => by omega)]
      rfl
    rw [qp_sum_add _ 1 d]
    have e : qp_b ((N * (1 + d) + 0) % (1 + d) = 0 ∧ P (N * (1 + d) + 0)) = qp_b (P (N * (1 + d))) := by
      apply qp_bc
      rw [Nat.add_zero, Nat.mul_mod_left]
      simp
    show _ + ((0 + if qp_b ((N * (1 + d) + 0) % (1 + d) = 0 ∧ P (N * (1 + d) + 0)) then 1 else 0) + _) = _ + (if qp_b (P (N * (1 + d))) then 1 else 0)
    rw [z, e]
    omega
theorem qp_tal_h {C U : Nat → Nat} (cl : qp_cl C U) (can : qp_can C U) {n : Nat} (tr : qp_tr C 4 n) (u : U n = 1) {g : Nat → Nat} (hg : ∀ t, t < 256 → g t = qp_ds C 4 n (qp_bo t)) {h : Nat} (hh : h ≤ 4) : qp_tal g (2 ^ h) = qp_sum (fun k => if qp_ht C 4 n (k * 4 ^ h) = h then 1 else 0) (4 ^ (4 - h)) := by
  rw [qp_tal_k cl can tr u hg]
  have e1 : (256 : Nat) = 4 ^ (4 - h) * 4 ^ h := by rw [← Nat.pow_add, Nat.sub_add_cancel hh]
  have e2 : qp_sum (fun k => if qp_ht C 4 n (k * 4 ^ h) = h then 1 else 0) (4 ^ (4 - h)) = qp_sum (fun k => if qp_b (qp_ht C 4 n (k * 4 ^ h) = h) then 1 else 0) (4 ^ (4 - h)) := by
    refine qp_sum_congr _ fun k _ => ?_
    by_cases c : qp_ht C 4 n (k * 4 ^ h) = h
    · rw [if_pos c, qp_bt.mpr c]; rfl
    · rw [if_neg c, qp_bf.mpr c]; rfl
  rw [e2, ← qp_sum_blk (fun k => qp_ht C 4 n k = h) (Nat.pow_pos (by decide)), ← e1]
  refine qp_sum_congr _ fun k _ => ?_
  have inj : ∀ a, a < 5 → ∀ b, b < 5 → (2 : Nat) ^ a = 2 ^ b → a = b := by decide
  have p : 0 < 2 ^ h := Nat.pow_pos (by decide)
  by_cases c : qp_ht C 4 n k = h
  · by_cases d : k % 4 ^ h = 0
    · rw [qp_bt.mpr ⟨d, c⟩, c]
      simp [d]
    · rw [qp_bf.mpr (fun w => d w.1), c, if_neg (fun w => d w.1)]
      rfl
  · rw [qp_bf.mpr (fun w => c w.2), if_neg]
    · rfl
    · rintro ⟨-, w | w⟩
      · omega
      · exact c (inj _ (by have := qp_ht_le (C := C) 4 n k; omega) _ (by omega) w.symm)
end
section
/-! pure: the store of nodes, its chains, a new node, a sweep -/
def qp_hx (a b c d : Int32) : Int32 := ((((((a * 31) + b) * 31) + c) * 31 + d) ^^^ ((((((((a * 31) + b) * 31) + c) * 31) + d).toUInt32 >>> ((6 : Int32).toUInt32 &&& Int32.toUInt32 31)).toInt32) ^^^ ((((((((a * 31) + b) * 31) + c) * 31) + d).toUInt32 >>> ((12 : Int32).toUInt32 &&& Int32.toUInt32 31)).toInt32)) &&& 63
def qp_key (a b c d : Nat) : Nat := (qp_hx (nI a) (nI b) (nI c) (nI d)).toNatClampNeg
theorem qp_key_hx (a b c d : Nat) : qp_hx (nI a) (nI b) (nI c) (nI d) = nI (qp_key a b c d) ∧ qp_key a b c d < 64 := by
  obtain ⟨j, hj, e⟩ := pk_andE (m := 63) (((((((nI a * 31) + nI b) * 31) + nI c) * 31 + nI d) ^^^ ((((((((nI a * 31) + nI b) * 31) + nI c) * 31) + nI d).toUInt32 >>> ((6 : Int32).toUInt32 &&& Int32.toUInt32 31)).toInt32) ^^^ ((((((((nI a * 31) + nI b) * 31) + nI c) * 31) + nI d).toUInt32 >>> ((12 : Int32).toUInt32 &&& Int32.toUInt32 31)).toInt32))) 6 (by decide)
  have e2 : qp_hx (nI a) (nI b) (nI c) (nI d) = nI j := e
  have hj : j < 64 := hj
  have e3 : qp_key a b c d = j := by
    show (qp_hx (nI a) (nI b) (nI c) (nI d)).toNatClampNeg = j
    rw [e2, nI_clamp (by omega)]
  rw [e3]
  exact ⟨e2, hj⟩
def qp_hk (C : Nat → Nat) (n : Nat) : Nat := qp_key (C (4 * n)) (C (4 * n + 1)) (C (4 * n + 2)) (C (4 * n + 3))
/-- the chain from b on is L -/
def qp_ch (N : Nat → Nat) : List Nat → Nat → Prop
  | [], b => b = 0
  | x :: L, b => b = x ∧ qp_ch N L (N x)
theorem qp_ch_congr {N M : Nat → Nat} : ∀ (L : List Nat) (b : Nat), (∀ x, x ∈ L → M x = N x) → qp_ch N L b → qp_ch M L b := by
  intro L
  induction L with
  | nil => intro b _ h; exact h
  | cons x L ih =>
    intro b e h
    refine ⟨h.1, ?_⟩
    rw [e x List.mem_cons_self]
    exact ih _ (fun y hy => e y (List.mem_cons_of_mem _ hy)) h.2
def qp_cs (C U N B : Nat → Nat) : Prop := ∀ key, key < 64 → ∃ L : List Nat, qp_ch N L (B key) ∧ L.Nodup ∧ ∀ n, n ∈ L ↔ 2 ≤ n ∧ n < 460 ∧ U n = 1 ∧ qp_hk C n = key
/-- the store: nodes in use are closed, not even, one each, counted and chained -/
def qp_St (us : Nat) (C N B U T : Nat → Nat) : Prop := U 0 = 1 ∧ U 1 = 1 ∧ (∀ n, U n ≤ 1) ∧ qp_cl C U ∧ qp_can C U ∧ qp_un C U ∧ qp_tc C U T ∧ qp_cs C U N B ∧ us = qp_cn (fun n => U n == 1) 460
def qa_c4 (C : Nat → Nat) (m : Nat) (D : Nat → Nat) : Nat → Nat := fun i => if i / 4 = m then D (i % 4) else C i
theorem qa_c4_s (C : Nat → Nat) (m : Nat) (D : Nat → Nat) {q : Nat} (hq : q < 4) : qa_c4 C m D (4 * m + q) = D q := by
  unfold qa_c4
  rw [if_pos (by omega), show (4 * m + q) % 4 = q by omega]
theorem qa_c4_n (C : Nat → Nat) {m n : Nat} (D : Nat → Nat) {q : Nat} (hq : q < 4) (h : n ≠ m) : qa_c4 C m D (4 * n + q) = C (4 * n + q) := by
  unfold qa_c4
  rw [if_neg (by omega)]
theorem qp_new {us : Nat} {C N B U T : Nat → Nat} (st : qp_St us C N B U T) {m : Nat} (m2 : 2 ≤ m) (m4 : m < 460) (um : U m = 0) {D : Nat → Nat} (hD : ∀ q, q < 4 → D q < 460 ∧ U (D q) = 1) (nD : ¬ (D 0 ≤ 1 ∧ D 1 = D 0 ∧ D 2 = D 0 ∧ D 3 = D 0)) (fD : ∀ n, 2 ≤ n → n < 460 → U n = 1 → ¬ ∀ q, q < 4 → C (4 * n + q) = D q) {key : Nat} (hk : key = qp_key (D 0) (D 1) (D 2) (D 3)) : qp_St (us + 1) (qa_c4 C m D) (qa_u N m (B key)) (qa_u B key m) (qa_u U m 1) (qa_u T m (qp_tl T (D 0) + qp_tl T (D 1) + qp_tl T (D 2) + qp_tl T (D 3))) := by
  obtain ⟨u0, u1, ub, cl, can, un, tc, cs, cu⟩ := st
  have hu : ∀ n, U n = 1 → n ≠ m := fun n h e => by rw [e, um] at h; exact absurd h (by decide)
  have hD' : ∀ q, q < 4 → D q ≠ m := fun q hq => hu _ (hD q hq).2
  have ku : ∀ n, n ≠ m → qa_u U m 1 n = U n := fun n h => qa_un U h
  have c0 : ∀ n, n ≠ m → qa_c4 C m D (4 * n) = C (4 * n) := fun n h => qa_c4_n C D (q := 0) (by decide) h
  have d0 : qa_c4 C m D (4 * m) = D 0 := qa_c4_s C m D (q := 0) (by decide)
  have hkn : ∀ n, n ≠ m → qp_hk (qa_c4 C m D) n = qp_hk C n := fun n h => by
    unfold qp_hk
    rw [c0 n h, qa_c4_n C D (q := 1) (by decide) h, qa_c4_n C D (q := 2) (by decide) h, qa_c4_n C D (q := 3) (by decide) h]
  have hkm : qp_hk (qa_c4 C m D) m = key := by
    unfold qp_hk
    rw [d0, qa_c4_s C m D (q := 1) (by decide), qa_c4_s C m D (q := 2) (by decide), qa_c4_s C m D (q := 3) (by decide), hk]
  have tln : ∀ (v c : Nat), c ≠ m → qp_tl (qa_u T m v) c = qp_tl T c := fun v c h => by
    unfold qp_tl
    rw [qa_un T h]
  refine ⟨?_, ?_, ?_, ?_, ?_, ?_, ?_, ?_, ?_⟩
  · rw [ku 0 (by omega)]; exact u0
  · rw [ku 1 (by omega)]; exact u1
  · intro n
    by_cases h : n = m
    · rw [h, qa_us]; exact Nat.le_refl _
    · rw [ku n h]; exact ub n
  · intro n n2 n4 un q hq
    by_cases h : n = m
    · rw [h, qa_c4_s C m D hq, ku _ (hD' q hq)]
      exact hD q hq
    · rw [ku n h] at un
      have c := cl n n2 n4 un q hq
      rw [qa_c4_n C D hq h, ku _ (hu _ c.2)]
      exact c
  · intro n n2 n4 un
    by_cases h : n = m
    · rw [h, d0, qa_c4_s C m D (q := 1) (by decide), qa_c4_s C m D (q := 2) (by decide), qa_c4_s C m D (q := 3) (by decide)]
      exact nD
    · rw [ku n h] at un
      rw [c0 n h, qa_c4_n C D (q := 1) (by decide) h, qa_c4_n C D (q := 2) (by decide) h, qa_c4_n C D (q := 3) (by decide) h]
      exact can n n2 n4 un
  · intro n l n2 n4 l2 l4 un' ul e
    by_cases h : n = m
    · by_cases h' : l = m
      · rw [h, h']
      · rw [ku l h'] at ul
        refine absurd (fun q hq => ?_) (fD l l2 l4 ul)
        have := e q hq
        rw [h, qa_c4_s C m D hq, qa_c4_n C D hq h'] at this
        exact this.symm
    · rw [ku n h] at un'
      by_cases h' : l = m
      · refine absurd (fun q hq => ?_) (fD n n2 n4 un')
        have := e q hq
        rw [h', qa_c4_s C m D hq, qa_c4_n C D hq h] at this
        exact this
      · rw [ku l h'] at ul
        refine un n l n2 n4 l2 l4 un' ul fun q hq => ?_
        have := e q hq
        rw [qa_c4_n C D hq h, qa_c4_n C D hq h'] at this
        exact this
  · intro n n2 n4 un
    by_cases h : n = m
    · rw [h, qa_us, d0, qa_c4_s C m D (q := 1) (by decide), qa_c4_s C m D (q := 2) (by decide), qa_c4_s C m D (q := 3) (by decide), tln _ _ (hD' 0 (by decide)), tln _ _ (hD' 1 (by decide)), tln _ _ (hD' 2 (by decide)), tln _ _ (hD' 3 (by decide))]
    · rw [ku n h] at un
      have c := cl n n2 n4 un
      rw [qa_un T h, c0 n h, qa_c4_n C D (q := 1) (by decide) h, qa_c4_n C D (q := 2) (by decide) h, qa_c4_n C D (q := 3) (by decide) h, tln _ (C (4 * n)) (hu _ (c 0 (by decide)).2), tln _ _ (hu _ (c 1 (by decide)).2), tln _ _ (hu _ (c 2 (by decide)).2), tln _ _ (hu _ (c 3 (by decide)).2)]
      exact tc n n2 n4 un
  · intro k hk'
    obtain ⟨L, l1, l2, l3⟩ := cs k hk'
    have nm : ∀ x, x ∈ L → x ≠ m := fun x hx => hu x ((l3 x).mp hx).2.2.1
    have l1' : qp_ch (qa_u N m (B key)) L (B k) := qp_ch_congr L _ (fun x hx => qa_un N (nm x hx)) l1
    by_cases h : k = key
    · subst h
      refine ⟨m :: L, ⟨qa_us B k m, ?_⟩, ?_, ?_⟩
      · rw [qa_us]; exact l1'
      · exact List.nodup_cons.mpr ⟨fun z => nm m z rfl, l2⟩
      · intro n
        rw [List.mem_cons]
        by_cases hn : n = m
        · subst hn
          rw [qa_us, hkm]
          exact ⟨fun _ => ⟨m2, m4, rfl, rfl⟩, fun _ => Or.inl rfl⟩
        · rw [ku n hn, hkn n hn, ← l3 n]
          exact ⟨fun z => z.resolve_left hn, Or.inr⟩
    · refine ⟨L, ?_, l2, ?_⟩
      · rw [qa_un B h]; exact l1'
      · intro n
        by_cases hn : n = m
        · subst hn
          rw [hkm]
          exact ⟨fun z => absurd rfl (nm n z), fun z => absurd z.2.2.2.symm h⟩
        · rw [ku n hn, hkn n hn, ← l3 n]
  · rw [cu]
    exact (qp_cn_one m4 (by rw [um]; rfl) (by rw [qa_us]; rfl) (fun i _ hi => by rw [ku i hi])).symm
/-- what is in use stays as it is when other nodes' quarters change -/
theorem qp_keep {C C' U : Nat → Nat} (cl : qp_cl C U) (ag : ∀ n, 2 ≤ n → n < 460 → U n = 1 → ∀ q, q < 4 → C' (4 * n + q) = C (4 * n + q)) : ∀ (h n : Nat), U n = 1 → qp_tr C h n → qp_tr C' h n ∧ ∀ k, qp_ds C' h n k = qp_ds C h n k := by
  intro h
  induction h with
  | zero => intro n _ t; exact ⟨t, fun _ => rfl⟩
  | succ h ih =>
    intro n u t
    by_cases hn : n ≤ 1
    · exact ⟨Or.inl hn, fun k => by rw [qp_ds_le _ _ hn, qp_ds_le _ _ hn]⟩
    · have n4 := qp_tr_lt t
      have c := fun q hq => ih _ (cl n (by omega) n4 u q hq).2 (qp_tr_c t hn q hq)
      refine ⟨Or.inr ⟨n4, fun q hq => ?_⟩, fun k => ?_⟩
      · rw [ag n (by omega) n4 u q hq]; exact (c q hq).1
      · rw [qp_ds_s _ _ hn, qp_ds_s _ _ hn, ag n (by omega) n4 u _ (Nat.mod_lt _ (by decide))]
        exact (c _ (Nat.mod_lt _ (by decide))).2 k
/-- a sweep: U' are the marked nodes in use -/
theorem qp_swp {us us' : Nat} {C N N' B B' U U' T M : Nat → Nat} (st : qp_St us C N B U T) (u0 : U' 0 = 1) (u1 : U' 1 = 1) (ub : ∀ n, U' n ≤ 1) (hu : ∀ n, 2 ≤ n → n < 460 → (U' n = 1 ↔ U n = 1 ∧ M n = 1)) (mc : ∀ n, 2 ≤ n → n < 460 → U n = 1 → M n = 1 → ∀ q, q < 4 → M (C (4 * n + q)) = 1) (cs : qp_cs C U' N' B') (cu : us' = qp_cn (fun n => U' n == 1) 460) : qp_St us' C N' B' U' T := by
  obtain ⟨-, -, -, cl, can, un, tc, -, -⟩ := st
  refine ⟨u0, u1, ub, ?_, ?_, ?_, ?_, cs, cu⟩
  · intro n n2 n4 u q hq
    have h := (hu n n2 n4).mp u
    have c := cl n n2 n4 h.1 q hq
    refine ⟨c.1, ?_⟩
    by_cases h2 : 2 ≤ C (4 * n + q)
    · exact (hu _ h2 c.1).mpr ⟨c.2, mc n n2 n4 h.1 h.2 q hq⟩
    · rcases (by omega : C (4 * n + q) = 0 ∨ C (4 * n + q) = 1) with e | e
      · rw [e]; exact u0
      · rw [e]; exact u1
  · exact fun n n2 n4 u => can n n2 n4 ((hu n n2 n4).mp u).1
  · exact fun n m n2 n4 m2 m4 a b => un n m n2 n4 m2 m4 ((hu n n2 n4).mp a).1 ((hu m m2 m4).mp b).1
  · exact fun n n2 n4 u => tc n n2 n4 ((hu n n2 n4).mp u).1
end
section
/-! pure: what three pictures reach; marks -/
def qp_k4 (C : Nat → Nat) (m : Nat) : List Nat := if m ≤ 1 then [] else [C (4 * m), C (4 * m + 1), C (4 * m + 2), C (4 * m + 3)]
def qp_rl (C P : Nat → Nat) : Nat → List Nat
  | 0 => [P 0, P 1, P 2]
  | j + 1 => (qp_rl C P j).flatMap (qp_k4 C)
theorem qp_k4_mem {C : Nat → Nat} {m n : Nat} : n ∈ qp_k4 C m ↔ 2 ≤ m ∧ ∃ q, q < 4 ∧ n = C (4 * m + q) := by
  unfold qp_k4
  by_cases h : m ≤ 1
  · rw [if_pos h]
    exact ⟨fun z => absurd z List.not_mem_nil, fun z => absurd z.1 (by omega)⟩
  · rw [if_neg h]
    constructor
    · intro z
      refine ⟨by omega, ?_⟩
      simp only [List.mem_cons, List.not_mem_nil, or_false] at z
      rcases z with z | z | z | z
      · exact ⟨0, by decide, z⟩
      · exact ⟨1, by decide, z⟩
      · exact ⟨2, by decide, z⟩
      · exact ⟨3, by decide, z⟩
    · rintro ⟨-, q, hq, rfl⟩
      match q, hq with
      | 0, _ => simp
      | 1, _ => simp
      | 2, _ => simp
      | 3, _ => simp
theorem qp_rl_s {C P : Nat → Nat} {j n : Nat} : n ∈ qp_rl C P (j + 1) ↔ ∃ m q, m ∈ qp_rl C P j ∧ 2 ≤ m ∧ q < 4 ∧ n = C (4 * m + q) := by
  show n ∈ (qp_rl C P j).flatMap (qp_k4 C) ↔ _
  rw [List.mem_flatMap]
  constructor
  · rintro ⟨m, hm, hn⟩
    obtain ⟨h2, q, hq, e⟩ := qp_k4_mem.mp hn
    exact ⟨m, q, hm, h2, hq, e⟩
  · rintro ⟨m, q, hm, h2, hq, e⟩
    exact ⟨m, hm, qp_k4_mem.mpr ⟨h2, q, hq, e⟩⟩
theorem qp_k4_len (C : Nat → Nat) : ∀ L : List Nat, (L.flatMap (qp_k4 C)).length ≤ 4 * L.length := by
  intro L
  induction L with
  | nil => exact Nat.le_refl _
  | cons x L ih =>
    rw [List.flatMap_cons, List.length_append, List.length_cons]
    have : (qp_k4 C x).length ≤ 4 := by
      unfold qp_k4
      split
      · exact Nat.zero_le _
      · exact Nat.le_refl _
    omega
/-- a picture's node -/
def qp_pic (C U P : Nat → Nat) : Prop := ∀ p, p < 3 → qp_tr C 4 (P p) ∧ U (P p) = 1
theorem qp_rl_tr {C U P : Nat → Nat} (cl : qp_cl C U) (hp : qp_pic C U P) : ∀ j, j ≤ 4 → ∀ n, n ∈ qp_rl C P j → qp_tr C (4 - j) n ∧ U n = 1 := by
  intro j
  induction j with
  | zero =>
    intro _ n hn
    have : n = P 0 ∨ n = P 1 ∨ n = P 2 := by simpa [qp_rl] using hn
    rcases this with e | e | e
    · rw [e]; exact hp 0 (by decide)
    · rw [e]; exact hp 1 (by decide)
    · rw [e]; exact hp 2 (by decide)
  | succ j ih =>
    intro hj n hn
    obtain ⟨m, q, hm, h2, hq, rfl⟩ := qp_rl_s.mp hn
    obtain ⟨t, u⟩ := ih (by omega) m hm
    rw [show 4 - j = (4 - (j + 1)) + 1 by omega] at t
    exact ⟨qp_tr_c t (by omega) q hq, (cl m h2 (qp_tr_lt t) u q hq).2⟩
def qp_rn (C P : Nat → Nat) (n : Nat) : Prop := ∃ j, j ≤ 4 ∧ n ∈ qp_rl C P j
theorem qp_rn_in {C U P : Nat → Nat} (cl : qp_cl C U) (hp : qp_pic C U P) {n : Nat} (h : qp_rn C P n) : n < 460 ∧ U n = 1 := by
  obtain ⟨j, hj, hn⟩ := h
  obtain ⟨t, u⟩ := qp_rl_tr cl hp j hj n hn
  exact ⟨qp_tr_lt t, u⟩
theorem qp_rn_3 {C U P : Nat → Nat} (cl : qp_cl C U) (hp : qp_pic C U P) {n : Nat} (h : qp_rn C P n) (h2 : 2 ≤ n) : ∃ j, j ≤ 3 ∧ n ∈ qp_rl C P j := by
  obtain ⟨j, hj, hn⟩ := h
  by_cases e : j = 4
  · subst e
    have : n ≤ 1 := (qp_rl_tr cl hp 4 hj n hn).1
    omega
  · exact ⟨j, by omega, hn⟩
theorem qp_rn_c {C U P : Nat → Nat} (cl : qp_cl C U) (hp : qp_pic C U P) {n : Nat} (h : qp_rn C P n) (h2 : 2 ≤ n) {q : Nat} (hq : q < 4) : qp_rn C P (C (4 * n + q)) := by
  obtain ⟨j, hj, hn⟩ := qp_rn_3 cl hp h h2
  exact ⟨j + 1, by omega, qp_rl_s.mpr ⟨n, q, hn, h2, hq, rfl⟩⟩
theorem qp_rn_cnt {C U P : Nat → Nat} (cl : qp_cl C U) (hp : qp_pic C U P) (p : Nat → Bool) (h : ∀ n, n < 460 → p n = true → n ≤ 1 ∨ qp_rn C P n) : qp_cn p 460 ≤ 257 := by
  have l0 : (qp_rl C P 0).length = 3 := rfl
  have l1 : (qp_rl C P 1).length ≤ 4 * (qp_rl C P 0).length := qp_k4_len C _
  have l2 : (qp_rl C P 2).length ≤ 4 * (qp_rl C P 1).length := qp_k4_len C _
  have l3 : (qp_rl C P 3).length ≤ 4 * (qp_rl C P 2).length := qp_k4_len C _
  have := qp_cn_mem p 460 ([0, 1] ++ (qp_rl C P 0 ++ (qp_rl C P 1 ++ (qp_rl C P 2 ++ qp_rl C P 3)))) (fun i hi pi => by
    simp only [List.mem_append]
    by_cases i2 : i ≤ 1
    · refine Or.inl ?_
      rcases (by omega : i = 0 ∨ i = 1) with e | e <;> subst e <;> simp
    · rcases h i hi pi with z | z
      · exact absurd z i2
      · obtain ⟨j, hj, hn⟩ := qp_rn_3 cl hp z (by omega)
        match j, hj, hn with
        | 0, _, hn => exact Or.inr (Or.inl hn)
        | 1, _, hn => exact Or.inr (Or.inr (Or.inl hn))
        | 2, _, hn => exact Or.inr (Or.inr (Or.inr (Or.inl hn)))
        | 3, _, hn => exact Or.inr (Or.inr (Or.inr (Or.inr hn))))
  simp only [List.length_append, List.length_cons, List.length_nil] at this
  omega
/-- the marks behind round r -/
def qp_mi (C P : Nat → Nat) (r : Nat) (M : Nat → Nat) : Prop := (∀ n, n < 460 → M n = 0 ∨ (M n = 1 ∧ qp_rn C P n)) ∧ ∀ j, j ≤ r → ∀ n, n ∈ qp_rl C P j → M n = 1
/-- the marks in round r at place k -/
def qp_mj (C P : Nat → Nat) (r k : Nat) (M : Nat → Nat) : Prop := qp_mi C P r M ∧ ∀ m q, m ∈ qp_rl C P r → 2 ≤ m → q < 4 → 4 * m + q < k → M (C (4 * m + q)) = 1
theorem qp_mj_0 {C P M : Nat → Nat} {r : Nat} (h : qp_mi C P r M) : qp_mj C P r 8 M := ⟨h, fun m q _ h2 _ hk => absurd hk (by omega)⟩
theorem qp_mj_e {C U P M : Nat → Nat} (cl : qp_cl C U) (hp : qp_pic C U P) {r : Nat} (hr : r < 4) (h : qp_mj C P r 1840 M) : qp_mi C P (r + 1) M := by
  refine ⟨h.1.1, fun j hj n hn => ?_⟩
  by_cases e : j = r + 1
  · subst e
    obtain ⟨m, q, hm, h2, hq, rfl⟩ := qp_rl_s.mp hn
    have := qp_tr_lt (qp_rl_tr cl hp r (by omega) m hm).1
    exact h.2 m q hm h2 hq (by omega)
  · exact h.1.2 j (by omega) n hn
theorem qp_mj_n {C P M : Nat → Nat} {r k : Nat} (h : qp_mj C P r k M) (z : M (k / 4) = 0) : qp_mj C P r (k + 1) M := by
  refine ⟨h.1, fun m q hm h2 hq hk => ?_⟩
  by_cases e : 4 * m + q = k
  · have e2 : k / 4 = m := by omega
    have := h.1.2 r (Nat.le_refl _) m hm
    rw [e2] at z
    omega
  · exact h.2 m q hm h2 hq (by omega)
theorem qp_mj_y {C U P M : Nat → Nat} (cl : qp_cl C U) (hp : qp_pic C U P) {r k : Nat} (k8 : 8 ≤ k) (kl : k < 1840) (h : qp_mj C P r k M) (z : ¬ M (k / 4) = 0) : C k < 460 ∧ qp_mj C P r (k + 1) (qa_u M (C k) 1) := by
  have rn : qp_rn C P (k / 4) := ((h.1.1 (k / 4) (by omega)).resolve_left z).2
  have rc : qp_rn C P (C k) := by
    have := qp_rn_c cl hp rn (by omega) (q := k % 4) (by omega)
    rw [show 4 * (k / 4) + k % 4 = k by omega] at this
    exact this
  have up : ∀ n, M n = 1 → qa_u M (C k) 1 n = 1 := fun n hn => by
    by_cases e : n = C k
    · rw [e, qa_us]
    · rw [qa_un M e]; exact hn
  refine ⟨(qp_rn_in cl hp rc).1, ⟨fun n hn => ?_, fun j hj n hn => up n (h.1.2 j hj n hn)⟩, fun m q hm h2 hq hk => ?_⟩
  · by_cases e : n = C k
    · rw [e, qa_us]; exact Or.inr ⟨rfl, rc⟩
    · rw [qa_un M e]; exact h.1.1 n hn
  · by_cases e : 4 * m + q = k
    · rw [e, qa_us]
    · exact up _ (h.2 m q hm h2 hq (by omega))
/-- chains: what is kept -/
def qp_kp (M : Nat → Nat) : List Nat → List Nat → List Nat
  | [], K => K
  | x :: L, K => if M x = 0 then qp_kp M L K else qp_kp M L (x :: K)
theorem qp_kp_mem {M : Nat → Nat} : ∀ (L K : List Nat) (n : Nat), n ∈ qp_kp M L K ↔ (n ∈ L ∧ ¬ M n = 0) ∨ n ∈ K := by
  intro L
  induction L with
  | nil => intro K n; simp [qp_kp]
  | cons x L ih =>
    intro K n
    show n ∈ (if M x = 0 then _ else _) ↔ _
    by_cases h : M x = 0
    · rw [if_pos h, ih, List.mem_cons]
      constructor
      · rintro (⟨a, b⟩ | a)
        · exact Or.inl ⟨Or.inr a, b⟩
        · exact Or.inr a
      · rintro (⟨a | a, b⟩ | a)
        · rw [a] at b; exact absurd h b
        · exact Or.inl ⟨a, b⟩
        · exact Or.inr a
    · rw [if_neg h, ih, List.mem_cons, List.mem_cons]
      constructor
      · rintro (⟨a, b⟩ | a | a)
        · exact Or.inl ⟨Or.inr a, b⟩
        · rw [a]; exact Or.inl ⟨Or.inl rfl, h⟩
        · exact Or.inr a
      · rintro (⟨a | a, b⟩ | a)
        · exact Or.inr (Or.inl a)
        · exact Or.inl ⟨a, b⟩
        · exact Or.inr (Or.inr a)
theorem qp_kp_nd {M : Nat → Nat} : ∀ (L K : List Nat), L.Nodup → K.Nodup → (∀ x, x ∈ L → ¬ x ∈ K) → (qp_kp M L K).Nodup := by
  intro L
  induction L with
  | nil => intro K _ h _; exact h
  | cons x L ih =>
    intro K hL hK d
    obtain ⟨h1, h2⟩ := List.nodup_cons.mp hL
    show (if M x = 0 then _ else _ : List Nat).Nodup
    by_cases h : M x = 0
    · rw [if_pos h]
      exact ih K h2 hK fun y hy => d y (List.mem_cons_of_mem _ hy)
    · rw [if_neg h]
      refine ih (x :: K) h2 (List.nodup_cons.mpr ⟨d x List.mem_cons_self, hK⟩) fun y hy hz => ?_
      rcases List.mem_cons.mp hz with e | e
      · rw [e] at hy; exact h1 hy
      · exact d y (List.mem_cons_of_mem _ hy) e
/-- the use behind the sweep up to i -/
def qp_sw (U M : Nat → Nat) (i : Nat) : Nat → Nat := fun n => if 2 ≤ n ∧ n < i then (if U n = 1 ∧ M n = 1 then 1 else 0) else U n
end
section
/-! pure: connected points, roots, and the number of regions -/
def qp_ad (s t : Nat) : Prop := (t = s + 1 ∧ s % 16 < 15) ∨ (t = s + 16 ∧ s < 240)
def qp_nb (s t : Nat) : Prop := qp_ad s t ∨ qp_ad t s
def qp_con (g : Nat → Nat) (a b : Nat) : Prop := ∀ S : Nat → Prop, S a → (∀ x y, x < 256 → y < 256 → S x → g x = 1 → g y = 1 → qp_nb x y → S y) → S b
theorem qp_con_r {g : Nat → Nat} (a : Nat) : qp_con g a a := fun _ h _ => h
theorem qp_con_t {g : Nat → Nat} {a b c : Nat} (h : qp_con g a b) (k : qp_con g b c) : qp_con g a c := fun S sa cl => k S (h S sa cl) cl
theorem qp_con_s {g : Nat → Nat} {a x y : Nat} (h : qp_con g a x) (hx : x < 256) (hy : y < 256) (gx : g x = 1) (gy : g y = 1) (e : qp_nb x y) : qp_con g a y := fun S sa cl => cl x y hx hy (h S sa cl) gx gy e
theorem qp_con_c {g : Nat → Nat} {a b : Nat} (h : qp_con g a b) : qp_con g b a :=
  h (fun x => qp_con g x a) (qp_con_r a) fun x y hx hy sx gx gy e => qp_con_t (qp_con_s (qp_con_r y) hy hx gy gx e.symm) sx
theorem qp_con_1 {g : Nat → Nat} {a b : Nat} (h : qp_con g a b) (ha : a < 256) (ga : g a = 1) : b < 256 ∧ g b = 1 :=
  h (fun x => x < 256 ∧ g x = 1) ⟨ha, ga⟩ fun _ _ _ hy _ _ gy _ => ⟨hy, gy⟩
/-- all points of a block are connected with its corner -/
theorem qp_con_b {g : Nat → Nat} {h : Nat} (hh : h ≤ 4) : ∀ (m t : Nat), t < 256 → t / 16 % 2 ^ h + t % 16 % 2 ^ h = m → (∀ s, s < 256 → s / 16 / 2 ^ h = t / 16 / 2 ^ h → s % 16 / 2 ^ h = t % 16 / 2 ^ h → g s = 1) → qp_con g t (16 * (t / 16 / 2 ^ h * 2 ^ h) + t % 16 / 2 ^ h * 2 ^ h) := by
  intro m
  induction m with
  | zero =>
    intro t ht e _
    have e1 := Nat.div_add_mod' (t / 16) (2 ^ h)
    have e2 := Nat.div_add_mod' (t % 16) (2 ^ h)
    rw [show 16 * (t / 16 / 2 ^ h * 2 ^ h) + t % 16 / 2 ^ h * 2 ^ h = t by omega]
    exact qp_con_r t
  | succ m ih =>
    intro t ht e all
    have fact : ∀ P : Nat → Prop, P 1 → P 2 → P 4 → P 8 → P 16 → P (2 ^ h) := fun P a b c d f => by
      match h, hh with
      | 0, _ => exact a
      | 1, _ => exact b
      | 2, _ => exact c
      | 3, _ => exact d
      | 4, _ => exact f
    by_cases hy : 0 < t % 16 % 2 ^ h
    · have k : (t - 1) / 16 = t / 16 ∧ (t - 1) % 16 / 2 ^ h = t % 16 / 2 ^ h ∧ (t - 1) % 16 % 2 ^ h + 1 = t % 16 % 2 ^ h ∧ (t - 1) % 16 < 15 ∧ 1 ≤ t := by
        revert hy
        refine fact (fun w => 0 < t % 16 % w → (t - 1) / 16 = t / 16 ∧ (t - 1) % 16 / w = t % 16 / w ∧ (t - 1) % 16 % w + 1 = t % 16 % w ∧ (t - 1) % 16 < 15 ∧ 1 ≤ t) ?_ ?_ ?_ ?_ ?_ <;> intro _ <;> omega
      obtain ⟨k1, k2, k3, k4, k5⟩ := k
      have c := ih (t - 1) (by omega) (by rw [k1]; omega) (fun s hs a b => all s hs (by rw [a, k1]) (by rw [b, k2]))
      rw [k1, k2] at c
      refine qp_con_t (qp_con_s (qp_con_r t) ht (by omega) (all t ht rfl rfl) (all (t - 1) (by omega) (by rw [k1]) k2) (Or.inr (Or.inl ⟨by omega, k4⟩))) c
    · have hx : 0 < t / 16 % 2 ^ h := by omega
      have k : (t - 16) % 16 = t % 16 ∧ (t - 16) / 16 / 2 ^ h = t / 16 / 2 ^ h ∧ (t - 16) / 16 % 2 ^ h + 1 = t / 16 % 2 ^ h ∧ t - 16 < 240 ∧ 16 ≤ t := by
        revert hx
        refine fact (fun w => 0 < t / 16 % w → (t - 16) % 16 = t % 16 ∧ (t - 16) / 16 / w = t / 16 / w ∧ (t - 16) / 16 % w + 1 = t / 16 % w ∧ t - 16 < 240 ∧ 16 ≤ t) ?_ ?_ ?_ ?_ ?_ <;> intro _ <;> omega
      obtain ⟨k1, k2, k3, k4, k5⟩ := k
      have c := ih (t - 16) (by omega) (by rw [k1]; omega) (fun s hs a b => all s hs (by rw [a, k2]) (by rw [b, k1]))
      rw [k1, k2] at c
      refine qp_con_t (qp_con_s (qp_con_r t) ht (by omega) (all t ht rfl rfl) (all (t - 16) (by omega) k2 (by rw [k1])) (Or.inr (Or.inr ⟨by omega, k4⟩))) c
theorem qp_cor : ∀ h, h < 5 → ∀ t, t < 256 → qp_po (qp_bo t / 4 ^ h * 4 ^ h) = 16 * (t / 16 / 2 ^ h * 2 ^ h) + t % 16 / 2 ^ h * 2 ^ h := by decide +kernel
/-- R are roots, F the last of them -/
def qp_uf (R F : Nat → Nat) : Prop := ∀ k, k < 256 → R k ≤ k ∧ F k < 256 ∧ R (F k) = F k ∧ (R k = k → F k = k) ∧ F (R k) = F k
/-- the roots of X between two joins: E are the pairs done; n is the number of set roots -/
def qp_ri (g R F : Nat → Nat) (E : Nat → Nat → Prop) (n : Nat) : Prop := qp_uf R F ∧ (∀ k, k < 256 → g (qp_po k) = 1 → g (qp_po (R k)) = 1 ∧ qp_con g (qp_po k) (qp_po (R k))) ∧ (∀ s t, E s t → F (qp_bo s) = F (qp_bo t)) ∧ n = qp_cn (fun k => R k == k && g (qp_po k) == 1) 256
theorem qp_ri_F {g R F : Nat → Nat} {E : Nat → Nat → Prop} {n : Nat} (I : qp_ri g R F E n) : ∀ m k, k < 256 → k ≤ m → g (qp_po k) = 1 → g (qp_po (F k)) = 1 ∧ qp_con g (qp_po k) (qp_po (F k)) := by
  intro m
  induction m with
  | zero =>
    intro k hk h0 hg
    have e : k = 0 := by omega
    subst e
    obtain ⟨a, -, -, b, -⟩ := I.1 0 hk
    rw [b (by omega)]
    exact ⟨hg, qp_con_r _⟩
  | succ m ih =>
    intro k hk hm hg
    obtain ⟨a, -, -, b, c⟩ := I.1 k hk
    by_cases e : R k = k
    · rw [b e]; exact ⟨hg, qp_con_r _⟩
    · obtain ⟨g1, g2⟩ := I.2.1 k hk hg
      obtain ⟨h1, h2⟩ := ih (R k) (by omega) (by omega) g1
      rw [c] at h1 h2
      exact ⟨h1, qp_con_t g2 h2⟩
def qp_ed (E : Nat → Nat → Prop) (a b : Nat) : Nat → Nat → Prop := fun s t => E s t ∨ (s = a ∧ t = b)
theorem qp_ri_0 {g R F : Nat → Nat} {E : Nat → Nat → Prop} {n s t : Nat} (I : qp_ri g R F E n) (e : F (qp_bo s) = F (qp_bo t)) : qp_ri g R F (qp_ed E s t) n := by
  refine ⟨I.1, I.2.1, ?_, I.2.2.2⟩
  rintro a b (h | ⟨rfl, rfl⟩)
  · exact I.2.2.1 a b h
  · exact e
/-- one join: the greater root b goes below the smaller a -/
theorem qp_ri_1 {g R F : Nat → Nat} {E : Nat → Nat → Prop} {n s t a b : Nat} (I : qp_ri g R F E n) (ha : a < 256) (hb : b < 256) (ra : R a = a) (rb : R b = b) (lt : a < b) (ga : g (qp_po a) = 1) (gb : g (qp_po b) = 1) (cab : qp_con g (qp_po b) (qp_po a)) (hst : (F (qp_bo s) = a ∧ F (qp_bo t) = b) ∨ (F (qp_bo s) = b ∧ F (qp_bo t) = a)) : 1 ≤ n ∧ qp_ri g (qa_u R b a) (fun k => if F k = b then a else F k) (qp_ed E s t) (n - 1) := by
  obtain ⟨uf, so, dn, cn⟩ := I
  have cn1 : qp_cn (fun k => R k == k && g (qp_po k) == 1) 256 = qp_cn (fun k => qa_u R b a k == k && g (qp_po k) == 1) 256 + 1 := by
    refine qp_cn_one hb ?_ ?_ ?_
    · try dsimp only
      rw [qa_us]
      have : (a == b) = false := by simp; omega
      rw [this]; rfl
    · try dsimp only
      rw [rb, gb]; simp
    · intro i _ hi
      try dsimp only
      rw [qa_un R hi]
  refine ⟨by omega, fun k hk => ?_, fun k hk hg => ?_, ?_, by omega⟩
  · obtain ⟨u1, u2, u3, u4, u5⟩ := uf k hk
    have fa : F a = a := (uf a ha).2.2.2.1 ra
    have fb : F b = b := (uf b hb).2.2.2.1 rb
    refine ⟨?_, ?_, ?_, ?_, ?_⟩
    · by_cases e : k = b
      · rw [e, qa_us]; omega
      · rw [qa_un R e]; exact u1
    · try dsimp only
      split
      · exact ha
      · exact u2
    · try dsimp only
      split
      · rw [qa_un R (by omega)]; exact ra
      · rename_i h
        rw [qa_un R h]; exact u3
    · intro e
      have kb : k ≠ b := fun z => by rw [z, qa_us] at e; omega
      rw [qa_un R kb] at e
      try dsimp only
      rw [u4 e, if_neg kb]
    · by_cases e : k = b
      · rw [e, qa_us]
        try dsimp only
        rw [fa, fb, if_pos rfl, if_neg (by omega)]
      · rw [qa_un R e]
        try dsimp only
        rw [u5]
  · by_cases e : k = b
    · rw [e, qa_us]
      exact ⟨ga, cab⟩
    · rw [qa_un R e]
      exact so k hk hg
  · rintro x y (h | ⟨rfl, rfl⟩)
    · try dsimp only
      rw [dn x y h]
    · try dsimp only
      rcases hst with ⟨h1, h2⟩ | ⟨h1, h2⟩
      · rw [h1, h2, if_neg (by omega), if_pos rfl]
      · rw [h1, h2, if_pos rfl, if_neg (by omega)]
/-- first points of their regions -/
def qp_fst (g : Nat → Nat) (y : Nat) : Prop := g y = 1 ∧ ∀ z, z < y → g z = 1 → ¬ qp_con g z y
noncomputable def qp_reg (g : Nat → Nat) : Nat := qp_cn (fun y => qp_b (qp_fst g y)) 256
theorem qp_ri_e {g R F : Nat → Nat} {E : Nat → Nat → Prop} {n : Nat} (I : qp_ri g R F E n) (all : ∀ s t, s < 256 → t < 256 → qp_ad s t → g s = 1 → g t = 1 → E s t) : n = qp_reg g := by
  have fc : ∀ s t, s < 256 → g s = 1 → qp_con g s t → F (qp_bo s) = F (qp_bo t) := by
    intro s t hs gs c
    refine c (fun x => F (qp_bo s) = F (qp_bo x)) rfl ?_
    intro x y hx hy sx gx gy e
    rw [sx]
    rcases e with e | e
    · exact I.2.2.1 x y (all x y hx hy e gx gy)
    · exact (I.2.2.1 y x (all y x hy hx e gy gx)).symm
  have cf : ∀ k l, k < 256 → l < 256 → g (qp_po k) = 1 → g (qp_po l) = 1 → F k = F l → qp_con g (qp_po k) (qp_po l) := by
    intro k l hk hl gk gl e
    have a := (qp_ri_F I 256 k hk (by omega) gk).2
    have b := (qp_ri_F I 256 l hl (by omega) gl).2
    rw [e] at a
    exact qp_con_t a (qp_con_c b)
  have ex : ∀ t, t < 256 → g t = 1 → ∃ y, y < 256 ∧ qp_fst g y ∧ qp_con g y t := by
    intro t ht gt
    obtain ⟨y, ⟨h1, h2⟩, h3⟩ := pk_least (fun y => g y = 1 ∧ qp_con g y t) ⟨t, gt, qp_con_r t⟩
    have hy := (qp_con_1 (qp_con_c h2) ht gt).1
    refine ⟨y, hy, ⟨h1, fun z hz gz c => h3 z hz ⟨gz, qp_con_t c h2⟩⟩, h2⟩
  rw [I.2.2.2]
  unfold qp_reg
  apply Nat.le_antisymm
  · have ch : ∃ f : Nat → Nat, ∀ k, k < 256 → g (qp_po k) = 1 → f k < 256 ∧ qp_fst g (f k) ∧ qp_con g (f k) (qp_po k) := by
      refine ⟨fun k => if h : k < 256 ∧ g (qp_po k) = 1 then Classical.choose (ex (qp_po k) (qp_po_lt k) h.2) else 0, fun k hk gk => ?_⟩
      try dsimp only
      rw [dif_pos ⟨hk, gk⟩]
      exact Classical.choose_spec (ex (qp_po k) (qp_po_lt k) gk)
    obtain ⟨f, hf⟩ := ch
    refine qp_cn_inj f (fun k hk pk => ?_) (fun k l hk hl pk pl e => ?_)
    · rw [Bool.and_eq_true, beq_iff_eq, beq_iff_eq] at pk
      obtain ⟨f1, f2, f3⟩ := hf k hk pk.2
      exact ⟨f1, qp_bt.mpr f2⟩
    · rw [Bool.and_eq_true, beq_iff_eq, beq_iff_eq] at pk pl
      obtain ⟨f1, f2, f3⟩ := hf k hk pk.2
      obtain ⟨l1, l2, l3⟩ := hf l hl pl.2
      rw [← e] at l3
      have c := fc (qp_po k) (qp_po l) (qp_po_lt k) pk.2 (qp_con_t (qp_con_c f3) l3)
      rw [qp_bp k hk, qp_bp l hl, (I.1 k hk).2.2.2.1 pk.1, (I.1 l hl).2.2.2.1 pl.1] at c
      exact c
  · refine qp_cn_inj (fun y => F (qp_bo y)) (fun y hy py => ?_) (fun y z hy hz py pz e => ?_)
    · have py := qp_bt.mp py
      obtain ⟨-, u2, u3, -, -⟩ := I.1 (qp_bo y) (qp_bo_lt y)
      refine ⟨u2, ?_⟩
      have := (qp_ri_F I 256 (qp_bo y) (qp_bo_lt y) (by have := qp_bo_lt y; omega) (by rw [qp_pb y hy]; exact py.1)).1
      try dsimp only
      rw [u3, this]
      simp
    · have py := qp_bt.mp py
      have pz := qp_bt.mp pz
      have c := cf (qp_bo y) (qp_bo z) (qp_bo_lt y) (qp_bo_lt z) (by rw [qp_pb y hy]; exact py.1) (by rw [qp_pb z hz]; exact pz.1) e
      rw [qp_pb y hy, qp_pb z hz] at c
      rcases Nat.lt_trichotomy y z with h | h | h
      · exact absurd c (pz.2 y h py.1)
      · exact h
      · exact absurd (qp_con_c c) (py.2 z h pz.1)
end
section
/-! walks: steps, checks, places, the way down -/
theorem qm_u {P : (Nat → Int32) → Prop} {a : Nat → Int32} {x y : Int32} (k : Nat) (v : Int32) (h : P (upd a k v)) (hx : x = nI k := by rfl) (hk : k < 2 ^ 31 := by omega) (hv : y = v := by rfl) : ∀ b, b = upd a x.toNatClampNeg y → P b := by
  subst hx hv
  intro b hb
  rw [nI_clamp hk] at hb
  rw [hb]
  exact h
theorem qm_t {P : (Nat → Int32) → Prop} {C : Nat → Nat} {x y : Int32} (k v : Nat) (h : P (qa_n (qa_u C k v))) (hx : x = nI k := by rfl) (hk : k < 2 ^ 31 := by omega) (hv : y = nI v := by rfl) : ∀ b, b = upd (qa_n C) x.toNatClampNeg y → P b := by
  rw [← qa_upd] at h
  exact qm_u k (nI v) h hx hk hv
theorem qm_g {P : Int32 → Prop} {a : Nat → Int32} {x : Int32} (k : Nat) (h : P (a k)) (hx : x = nI k := by rfl) (hk : k < 2 ^ 31 := by omega) : ∀ y, y = a x.toNatClampNeg → P y := by
  subst hx
  intro y hy
  rw [nI_clamp hk] at hy
  rw [hy]
  exact h
theorem qm_r {a : Nat → Int32} {x v : Int32} (k : Nat) (hv : a k = v) (hx : x = nI k := by rfl) (hk : k < 2 ^ 31 := by omega) : a x.toNatClampNeg = v := by
  subst hx
  rw [nI_clamp hk]
  exact hv
theorem qm_i {P : Int32 → Prop} {k : Nat} (h : P (nI (k + 1))) : ∀ y, y = nI k + 1 → P y := by
  intro y hy
  rw [nI_1] at hy
  rw [hy]
  exact h
theorem qn_4 (n q : Nat) : 4 * nI n + nI q = nI (4 * n + q) := by
  rw [show (4 : Int32) = nI 4 from rfl, pk_mul, nI_add]
theorem qn_16 (n q : Nat) : 16 * nI n + nI q = nI (16 * n + q) := by
  rw [show (16 : Int32) = nI 16 from rfl, pk_mul, nI_add]
theorem qn_256 (n q : Nat) : 256 * nI n + nI q = nI (256 * n + q) := by
  rw [show (256 : Int32) = nI 256 from rfl, pk_mul, nI_add]
theorem qn_sh : ∀ h, h < 5 → ∀ k, k < 256 → (nI k >>> ((2 * nI h) &&& 31)) &&& 3 = nI (k / 4 ^ h % 4) := by decide +kernel
theorem qn_b1 : vp_nar .boolean 1 = nI 1 := rfl
theorem qn_b0 : vp_nar .boolean 0 = nI 0 := rfl
theorem qn_shr4 {k : Nat} (h : k < 2 ^ 31) : nI k >>> ((4 : Int32) &&& 31) = nI (k / 16) := pk_shrN h _ 4 (by decide)
theorem qn_and15 {k : Nat} (h : k < 2 ^ 31) : nI k &&& 15 = nI (k % 16) := pk_andN (by omega) 4 (by decide)
theorem qn_div16 {k : Nat} (h : k < 2 ^ 31) : nI k / 16 = nI (k / 16) := pk_div (d := 16) h (by decide) (by decide)
theorem qn_rem16 {k : Nat} (h : k < 2 ^ 31) : nI k - nI k / 16 * 16 = nI (k % 16) := pk_rem (d := 16) h (by decide) (by decide)
/-! the argument checks of both sides -/
theorem qv_pic (p : Int32) : (∃ j, j < 3 ∧ p = nI j ∧ (∀ post : Int32 → Prop, post 1 → wpX_isPicture post p) ∧ (∀ (post : Int32 → Prop) (v : SY), post 0 → wpY_bad post v p)) ∨ ((∀ post : Int32 → Prop, post 0 → wpX_isPicture post p) ∧ (∀ (post : Int32 → Prop) (v : SY), post 1 → wpY_bad post v p)) := by
  by_cases h0 : p < 0
  · exact Or.inr ⟨fun post h => br_t h0 h, fun post v h => br_t h0 h⟩
  · obtain ⟨j, hj, rfl⟩ := nI_of h0
    by_cases h2 : j < 3
    · exact Or.inl ⟨j, h2, rfl, fun post h => br_f h0 (pk_lt 2 j (fun z => absurd z (by omega)) (fun _ => h)), fun post v h => br_f h0 (pk_le j 2 (fun _ => h) (fun z => absurd z (by omega)))⟩
    · exact Or.inr ⟨fun post h => br_f h0 (pk_lt 2 j (fun _ => h) (fun z => absurd z (by omega))), fun post v h => br_f h0 (pk_le j 2 (fun z => absurd z (by omega)) (fun _ => h))⟩
theorem qv_pnt (x y : Int32) : (∃ i j, i < 16 ∧ j < 16 ∧ x = nI i ∧ y = nI j ∧ (∀ post : Int32 → Prop, post 1 → wpX_isPoint post x y) ∧ (∀ (post : Int32 → Prop) (v : SY), post 0 → wpY_out post v x y)) ∨ ((∀ post : Int32 → Prop, post 0 → wpX_isPoint post x y) ∧ (∀ (post : Int32 → Prop) (v : SY), post 1 → wpY_out post v x y)) := by
  by_cases h0 : x < 0
  · exact Or.inr ⟨fun post h => br_t h0 h, fun post v h => br_t h0 h⟩
  · obtain ⟨i, hi, rfl⟩ := nI_of h0
    by_cases h2 : i < 16
    · by_cases k0 : y < 0
      · exact Or.inr ⟨fun post h => br_f h0 (pk_le 16 i (fun z => absurd z (by omega)) (fun _ => br_t k0 h)), fun post v h => br_f h0 (pk_lt 15 i (fun z => absurd z (by omega)) (fun _ => br_t k0 h))⟩
      · obtain ⟨j, hj, rfl⟩ := nI_of k0
        by_cases k2 : j < 16
        · exact Or.inl ⟨i, j, h2, k2, rfl, rfl, fun post h => br_f h0 (pk_le 16 i (fun z => absurd z (by omega)) (fun _ => br_f k0 (pk_le 16 j (fun z => absurd z (by omega)) (fun _ => h)))), fun post v h => br_f h0 (pk_lt 15 i (fun z => absurd z (by omega)) (fun _ => br_f k0 (pk_le j 15 (fun _ => h) (fun z => absurd z (by omega)))))⟩
        · exact Or.inr ⟨fun post h => br_f h0 (pk_le 16 i (fun z => absurd z (by omega)) (fun _ => br_f k0 (pk_le 16 j (fun _ => h) (fun z => absurd z (by omega))))), fun post v h => br_f h0 (pk_lt 15 i (fun z => absurd z (by omega)) (fun _ => br_f k0 (pk_le j 15 (fun z => absurd z (by omega)) (fun _ => h))))⟩
    · exact Or.inr ⟨fun post h => br_f h0 (pk_le 16 i (fun _ => h) (fun z => absurd z (by omega))), fun post v h => br_f h0 (pk_lt 15 i (fun _ => h) (fun z => absurd z (by omega)))⟩
def qv_rc (lo hi : Nat) : Prop := lo < 256 ∧ hi < 256 ∧ lo / 16 ≤ hi / 16 ∧ lo % 16 ≤ hi % 16
theorem qv_rec (x y : Int32) : (∃ lo hi, qv_rc lo hi ∧ x = nI lo ∧ y = nI hi ∧ (∀ post : Int32 → Prop, post 1 → wpX_isRectangle post x y) ∧ (∀ (post : Int32 → Prop) (v : SY), post 0 → wpY_badFrame post v x y)) ∨ ((∀ post : Int32 → Prop, post 0 → wpX_isRectangle post x y) ∧ (∀ (post : Int32 → Prop) (v : SY), post 1 → wpY_badFrame post v x y)) := by
  by_cases h0 : x < 0
  · exact Or.inr ⟨fun post h => br_t h0 (br_t rfl h), fun post v h => br_t h0 h⟩
  · obtain ⟨i, hi, rfl⟩ := nI_of h0
    by_cases h2 : i < 256
    · by_cases k0 : y < 0
      · exact Or.inr ⟨fun post h => br_f h0 (pk_lt 255 i (fun z => absurd z (by omega)) (fun _ => br_t k0 (br_t rfl h))), fun post v h => br_f h0 (pk_lt 255 i (fun z => absurd z (by omega)) (fun _ => br_t k0 h))⟩
      · obtain ⟨j, hj, rfl⟩ := nI_of k0
        by_cases k2 : j < 256
        · by_cases c1 : i / 16 ≤ j / 16
          · by_cases c2 : i % 16 ≤ j % 16
            · refine Or.inl ⟨i, j, ⟨h2, k2, c1, c2⟩, rfl, rfl, fun post h => br_f h0 (pk_lt 255 i (fun z => absurd z (by omega)) (fun _ => br_f k0 (pk_lt 255 j (fun z => absurd z (by omega)) (fun _ => br_f (by decide) ?_)))), fun post v h => br_f h0 (pk_lt 255 i (fun z => absurd z (by omega)) (fun _ => br_f k0 (pk_le j 255 (fun _ => ⟨by decide, by decide, ?_⟩) (fun z => absurd z (by omega)))))⟩
              · exact pk_lt (j / 16) (i / 16) (fun z => absurd z (by omega)) (fun _ => pk_lt (j % 16) (i % 16) (fun z => absurd z (by omega)) (fun _ => h) (qn_and15 hj) (qn_and15 hi)) (qn_shr4 hj) (qn_shr4 hi)
              · exact pk_lt (j / 16) (i / 16) (fun z => absurd z (by omega)) (fun _ => ⟨by decide, by decide, pk_le (i % 16) (j % 16) (fun _ => h) (fun z => absurd z (by omega)) (qn_rem16 hi) (qn_rem16 hj)⟩) (qn_div16 hj) (qn_div16 hi)
            · refine Or.inr ⟨fun post h => br_f h0 (pk_lt 255 i (fun z => absurd z (by omega)) (fun _ => br_f k0 (pk_lt 255 j (fun z => absurd z (by omega)) (fun _ => br_f (by decide) ?_)))), fun post v h => br_f h0 (pk_lt 255 i (fun z => absurd z (by omega)) (fun _ => br_f k0 (pk_le j 255 (fun _ => ⟨by decide, by decide, ?_⟩) (fun z => absurd z (by omega)))))⟩
              · exact pk_lt (j / 16) (i / 16) (fun z => absurd z (by omega)) (fun _ => pk_lt (j % 16) (i % 16) (fun _ => h) (fun z => absurd z (by omega)) (qn_and15 hj) (qn_and15 hi)) (qn_shr4 hj) (qn_shr4 hi)
              · exact pk_lt (j / 16) (i / 16) (fun z => absurd z (by omega)) (fun _ => ⟨by decide, by decide, pk_le (i % 16) (j % 16) (fun z => absurd z (by omega)) (fun _ => h) (qn_rem16 hi) (qn_rem16 hj)⟩) (qn_div16 hj) (qn_div16 hi)
          · refine Or.inr ⟨fun post h => br_f h0 (pk_lt 255 i (fun z => absurd z (by omega)) (fun _ => br_f k0 (pk_lt 255 j (fun z => absurd z (by omega)) (fun _ => br_f (by decide) ?_)))), fun post v h => br_f h0 (pk_lt 255 i (fun z => absurd z (by omega)) (fun _ => br_f k0 (pk_le j 255 (fun _ => ⟨by decide, by decide, ?_⟩) (fun z => absurd z (by omega)))))⟩
            · exact pk_lt (j / 16) (i / 16) (fun _ => h) (fun z => absurd z (by omega)) (qn_shr4 hj) (qn_shr4 hi)
            · exact pk_lt (j / 16) (i / 16) (fun _ => h) (fun z => absurd z (by omega)) (qn_div16 hj) (qn_div16 hi)
        · exact Or.inr ⟨fun post h => br_f h0 (pk_lt 255 i (fun z => absurd z (by omega)) (fun _ => br_f k0 (pk_lt 255 j (fun _ => br_t rfl h) (fun z => absurd z (by omega))))), fun post v h => br_f h0 (pk_lt 255 i (fun z => absurd z (by omega)) (fun _ => br_f k0 (pk_le j 255 (fun z => absurd z (by omega)) (fun _ => h))))⟩
    · exact Or.inr ⟨fun post h => br_f h0 (pk_lt 255 i (fun _ => br_t rfl h) (fun z => absurd z (by omega))), fun post v h => br_f h0 (pk_lt 255 i (fun _ => h) (fun z => absurd z (by omega)))⟩
/-- a point in a rectangle, on both sides -/
def qp_in (lo hi t : Nat) : Nat := if lo / 16 ≤ t / 16 ∧ t / 16 ≤ hi / 16 ∧ lo % 16 ≤ t % 16 ∧ t % 16 ≤ hi % 16 then 1 else 0
theorem qx_inR {post : Int32 → Prop} {lo hi t : Nat} (hl : lo < 256) (hh : hi < 256) (ht : t < 256) (h : post (nI (qp_in lo hi t))) : wpX_inRectangle post (nI t) (nI lo) (nI hi) := by
  unfold qp_in at h
  refine nm_r (qn_shr4 (by omega)) (nm_r (qn_and15 (by omega)) ?_)
  refine pk_lt (t / 16) (lo / 16) (fun z => ?_) (fun z => pk_lt (hi / 16) (t / 16) (fun z => ?_) (fun z => pk_lt (t % 16) (lo % 16) (fun z => ?_) (fun z => pk_lt (hi % 16) (t % 16) (fun z => ?_) (fun z => ?_) (qn_and15 (by omega)) rfl) rfl (qn_and15 (by omega))) (qn_shr4 (by omega)) rfl) rfl (qn_shr4 (by omega))
  · rw [if_neg (by omega)] at h; exact h
  · rw [if_neg (by omega)] at h; exact h
  · rw [if_neg (by omega)] at h; exact h
  · rw [if_neg (by omega)] at h; exact h
  · rw [if_pos (by omega)] at h; exact h
theorem qy_inR {post : Int32 → Prop} {v : SY} {lo hi t : Nat} (hl : lo < 256) (hh : hi < 256) (ht : t < 256) (h : post (nI (qp_in lo hi t))) : wpY_inside post v (nI t) (nI lo) (nI hi) := by
  unfold qp_in at h
  obtain ⟨d, e, s⟩ := v
  refine And.intro (by decide) ⟨by decide, ?_⟩
  refine pk_lt (t / 16) (lo / 16) (fun z => ?_) (fun z => ⟨by decide, by decide, pk_lt (hi / 16) (t / 16) (fun z => ?_) (fun z => ⟨by decide, by decide, pk_lt (t % 16) (lo % 16) (fun z => ?_) (fun z => ⟨by decide, by decide, pk_lt (hi % 16) (t % 16) (fun z => ?_) (fun z => ?_) (qn_rem16 (by omega)) (qn_rem16 (by omega))⟩) (qn_rem16 (by omega)) (qn_rem16 (by omega))⟩) (qn_div16 (by omega)) (qn_div16 (by omega))⟩) (qn_div16 (by omega)) (qn_div16 (by omega))
  · rw [if_neg (by omega)] at h; exact h
  · rw [if_neg (by omega)] at h; exact h
  · rw [if_neg (by omega)] at h; exact h
  · rw [if_neg (by omega)] at h; exact h
  · rw [if_pos (by omega)] at h; exact h
/-! places and points -/
def qn_s (x y : Int32) : Int32 := (x >>> (y &&& 31)) &&& 1
def qn_bo (x : Int32) : Int32 := 4 * (4 * (4 * (4 * 0 + 2 * qn_s x (4 + 3) + qn_s x (3)) + 2 * qn_s x (4 + (3 + (-1))) + qn_s x (3 + (-1))) + 2 * qn_s x (4 + (3 + (-1) + (-1))) + qn_s x (3 + (-1) + (-1))) + 2 * qn_s x (4 + (3 + (-1) + (-1) + (-1))) + qn_s x (3 + (-1) + (-1) + (-1))
theorem qn_bo_t : ∀ t, t < 256 → qn_bo (nI t) = nI (qp_bo t) := by decide +kernel
theorem qx_bo {post : Int32 → Prop} {t : Nat} (ht : t < 256) (h : post (nI (qp_bo t))) : wpX_blockOf post (nI t) := by
  rw [← qn_bo_t t ht] at h
  refine Exists.intro 5 ?_
  exact br_f (by decide) (nm_e (nm_e (br_f (by decide) (nm_e (nm_e (br_f (by decide) (nm_e (nm_e (br_f (by decide) (nm_e (nm_e (br_t (by decide) h))))))))))))
def qn_px (x : Int32) : Int32 := 2 * (2 * (2 * (2 * 0 + qn_s x ((2 * 3) + 1)) + qn_s x ((2 * (3 + (-1))) + 1)) + qn_s x ((2 * (3 + (-1) + (-1))) + 1)) + qn_s x ((2 * (3 + (-1) + (-1) + (-1))) + 1)
def qn_py (x : Int32) : Int32 := 2 * (2 * (2 * (2 * 0 + qn_s x (2 * 3)) + qn_s x (2 * (3 + (-1)))) + qn_s x (2 * (3 + (-1) + (-1)))) + qn_s x (2 * (3 + (-1) + (-1) + (-1)))
theorem qn_po_t : ∀ t, t < 256 → 16 * qn_px (nI t) + qn_py (nI t) = nI (qp_po t) := by decide +kernel
theorem qx_po {post : Int32 → Prop} {k : Nat} (hk : k < 256) (h : post (nI (qp_po k))) : wpX_pointOf post (nI k) := by
  rw [← qn_po_t k hk] at h
  refine Exists.intro 5 ?_
  exact br_f (by decide) (nm_e (nm_e (nm_e (br_f (by decide) (nm_e (nm_e (nm_e (br_f (by decide) (nm_e (nm_e (nm_e (br_f (by decide) (nm_e (nm_e (nm_e (br_t (by decide) h))))))))))))))))
end
section
/-! walks: unfold, keepFrame, colour, height, area -/
abbrev qx_J : Type := Int32 → (Nat → Int32) → (Nat → Int32) → (Nat → Int32) → (Nat → Int32) → (Nat → Int32) → (Nat → Int32) → (Nat → Int32) → (Nat → Int32) → (Nat → Int32) → (Nat → Int32) → (Nat → Int32) → Prop
abbrev qx_J3 : Type := Int32 → Int32 → Int32 → (Nat → Int32) → (Nat → Int32) → (Nat → Int32) → (Nat → Int32) → (Nat → Int32) → (Nat → Int32) → (Nat → Int32) → (Nat → Int32) → (Nat → Int32) → (Nat → Int32) → (Nat → Int32) → Prop
section
variable {us : Int32} {ch cn bk iu mk pc fr ot dr ct rt : Nat → Int32}
theorem qn_ix {n k h : Nat} (hh : h < 5) (hk : k < 256) : 4 * nI n + ((nI k >>> ((2 * nI h) &&& 31)) &&& 3) = nI (4 * n + k / 4 ^ h % 4) := by
  rw [qn_sh h hh k hk, qn_4]
theorem qx_un19 {post : SX → Prop} {J : qx_J} {x1 : Int32} {C : Nat → Nat} {k : Nat} (hk : k < 256) : ∀ (h n : Nat) (x4 : Int32), h ≤ 4 → x4 = nI h + (-1) → qp_tr C h n → J (nI (k + 1)) (qa_n C) cn bk iu mk pc (upd fr k (nI (qp_ds C h n k))) ot dr ct rt → wX_unfold_19 post J x1 (nI k) us (qa_n C) cn bk iu mk pc fr ot dr ct rt (h + 1) (nI n) x4 := by
  intro h
  induction h with
  | zero =>
    intro n x4 _ e t H
    subst e
    exact br_t (by decide) ⟨vp_in_nI hk (by decide), qm_u k (nI n) (qm_i H)⟩
  | succ h ih =>
    intro n x4 hh e t H
    rw [pk_m1] at e
    subst e
    refine br_f (nI_pos (by omega)) ?_
    by_cases hn : n ≤ 1
    · rw [qp_ds_le _ _ hn] at H
      exact br_t (nI_le (b := 1) hn (by decide)) ⟨vp_in_nI hk (by decide), qm_u k (nI n) (qm_i H)⟩
    · have n4 := qp_tr_lt t
      have hq : k / 4 ^ h % 4 < 4 := Nat.mod_lt _ (by decide)
      rw [qp_ds_s _ _ hn] at H
      refine br_f (nI_ge (a := 1) (by omega) (by omega)) ⟨pk_in (4 * n + k / 4 ^ h % 4) 1840 (by omega) (qn_ix (by omega) hk) (by decide), qm_g (4 * n + k / 4 ^ h % 4) ?_ (qn_ix (by omega) hk) (by omega)⟩
      exact nm_e (ih _ _ (by omega) rfl (qp_tr_c t hn _ hq) H)
theorem qx_unfold {post : SX → Prop} {C P : Nat → Nat} {p : Nat} (hp : p < 3) (t : qp_tr C 4 (P p)) (K : ∀ fr' : Nat → Int32, (∀ k, k < 256 → fr' k = nI (qp_ds C 4 (P p) k)) → post (us, qa_n C, cn, bk, iu, mk, qa_n P, fr', ot, dr, ct, rt)) : wpX_unfold post (us, qa_n C, cn, bk, iu, mk, qa_n P, fr, ot, dr, ct, rt) (nI p) := by
  refine pk_loop (fun n i f => wX_unfold_2 post (nI p) us n (nI i) (qa_n C) cn bk iu mk (qa_n P) f ot dr ct rt) (fun i f => ∀ k, k < i → f k = nI (qp_ds C 4 (P p) k)) 256 0 fr (by omega) (fun k hk => absurd hk (by omega)) ?_ ?_
  · intro n f I
    exact br_t (by decide) (K f I)
  · intro n i f hi I nx
    refine br_f (nI_ge (b := 256) hi (by decide)) ⟨vp_in_nI hp (by decide), qm_g p ?_⟩
    refine ⟨5, qx_un19 hi 4 (P p) _ (by omega) (by decide) t (nx _ fun k hk => ?_)⟩
    by_cases e : k = i
    · rw [e, pk_us]
    · rw [pk_un e]; exact I k (by omega)
theorem qx_keep {post : SX → Prop} (K : ∀ ot' : Nat → Int32, (∀ k, k < 256 → ot' k = fr k) → post (us, ch, cn, bk, iu, mk, pc, fr, ot', dr, ct, rt)) : wpX_keepFrame post (us, ch, cn, bk, iu, mk, pc, fr, ot, dr, ct, rt) := by
  refine pk_loop (fun n i o => wX_keepFrame_2 post us n (nI i) ch cn bk iu mk pc fr o dr ct rt) (fun i o => ∀ k, k < i → o k = fr k) 256 0 ot (by omega) (fun k hk => absurd hk (by omega)) ?_ ?_
  · intro n o I
    exact br_t (by decide) (K o I)
  · intro n i o hi I nx
    refine br_f (nI_ge (b := 256) hi (by decide)) ⟨vp_in_nI hi (by decide), vp_in_nI hi (by decide), qm_u i (fr i) (qm_i (nx _ fun k hk => ?_)) rfl (by omega) (by rw [nI_clamp (by omega)])⟩
    by_cases e : k = i
    · rw [e, pk_us]
    · rw [pk_un e]; exact I k (by omega)
theorem qx_co11 {post : Int32 → Prop} {C : Nat → Nat} {k : Nat} (hk : k < 256) : ∀ (h n : Nat) (x5 : Int32), h ≤ 4 → x5 = nI h + (-1) → qp_tr C h n → post (nI (qp_ds C h n k)) → wX_colourAt_11 post (nI k) us (qa_n C) cn bk iu mk pc fr ot dr ct rt (h + 1) (nI n) x5 := by
  intro h
  induction h with
  | zero =>
    intro n x4 _ e t H
    subst e
    exact br_t (by decide) H
  | succ h ih =>
    intro n x4 hh e t H
    rw [pk_m1] at e
    subst e
    refine br_f (nI_pos (by omega)) ?_
    by_cases hn : n ≤ 1
    · rw [qp_ds_le _ _ hn] at H
      exact br_t (nI_le (b := 1) hn (by decide)) H
    · have n4 := qp_tr_lt t
      have hq : k / 4 ^ h % 4 < 4 := Nat.mod_lt _ (by decide)
      rw [qp_ds_s _ _ hn] at H
      refine br_f (nI_ge (a := 1) (by omega) (by omega)) ⟨pk_in (4 * n + k / 4 ^ h % 4) 1840 (by omega) (qn_ix (by omega) hk) (by decide), qm_g (4 * n + k / 4 ^ h % 4) ?_ (qn_ix (by omega) hk) (by omega)⟩
      exact nm_e (ih _ _ (by omega) rfl (qp_tr_c t hn _ hq) H)
theorem qx_col {post : Int32 → Prop} {C : Nat → Nat} {n t : Nat} (ht : t < 256) (tr : qp_tr C 4 n) (K : post (nI (qp_ds C 4 n (qp_bo t)))) : wpX_colourAt post (us, qa_n C, cn, bk, iu, mk, pc, fr, ot, dr, ct, rt) (nI n) (nI t) :=
  qx_bo (post := fun r_1 => ∃ n11 : Nat, wX_colourAt_11 post r_1 us (qa_n C) cn bk iu mk pc fr ot dr ct rt n11 (nI n) 3) ht ⟨5, qx_co11 (qp_bo_lt t) 4 n _ (by omega) (by decide) tr K⟩
theorem qx_he5 {post : Int32 → Prop} {C : Nat → Nat} {k : Nat} (hk : k < 256) : ∀ (h n : Nat), h ≤ 4 → qp_tr C h n → post (nI (qp_ht C h n k)) → wX_heightAt_5 post (nI k) us (qa_n C) cn bk iu mk pc fr ot dr ct rt (h + 1) (nI n) (nI h) := by
  intro h
  induction h with
  | zero =>
    intro n _ t H
    exact br_t (by decide) H
  | succ h ih =>
    intro n hh t H
    refine br_f (nI_nle (by omega) (by omega)) ?_
    by_cases hn : n ≤ 1
    · rw [qp_ht_e _ _ hn] at H
      exact br_t (nI_le (b := 1) hn (by decide)) H
    · have n4 := qp_tr_lt t
      have hq : k / 4 ^ h % 4 < 4 := Nat.mod_lt _ (by decide)
      rw [qp_ht_s _ _ hn] at H
      refine br_f (nI_ge (a := 1) (by omega) (by omega)) (nm_r (pk_m1 h) ⟨pk_in (4 * n + k / 4 ^ h % 4) 1840 (by omega) (qn_ix (by omega) hk) (by decide), qm_g (4 * n + k / 4 ^ h % 4) ?_ (qn_ix (by omega) hk) (by omega)⟩)
      exact ih _ (by omega) (qp_tr_c t hn _ hq) H
theorem qx_hei {post : Int32 → Prop} {C : Nat → Nat} {n k : Nat} (hk : k < 256) (tr : qp_tr C 4 n) (K : post (nI (qp_ht C 4 n k))) : wpX_heightAt post (us, qa_n C, cn, bk, iu, mk, pc, fr, ot, dr, ct, rt) (nI n) (nI k) :=
  Exists.intro 5 (qx_he5 hk 4 n (by omega) tr K)
/-! area -/
theorem qn_pop {h n : Nat} (hh : h ≤ 4) (hn : n < 460) : nI (h * 460 + n) / 460 = nI h ∧ nI (h * 460 + n) - nI (h * 460 + n) / 460 * 460 = nI n := by
  have a := pk_div (a := h * 460 + n) (d := 460) (by omega) (by decide) (by decide)
  have b := pk_rem (a := h * 460 + n) (d := 460) (by omega) (by decide) (by decide)
  rw [show (h * 460 + n) / 460 = h by omega] at a
  rw [show (h * 460 + n) % 460 = n by omega] at b
  exact ⟨a, b⟩
theorem qn_1sh : ∀ h, h < 5 → (1 : Int32) <<< ((2 * nI h) &&& 31) = nI (4 ^ h) := by decide +kernel
theorem qx_ar84 {post : Int32 → SX → Prop} {J : qx_J3} {x3 x4 : Int32} {C : Nat → Nat} {h n w : Nat} (hw : w + 4 ≤ 256) (n4 : n < 460) (hh : h < 5) (H : ∀ rt' : Nat → Int32, (∀ i, i < w → rt' i = rt i) → (∀ q, q < 4 → rt' (w + q) = nI (h * 460 + C (4 * n + q))) → J (nI (w + 4)) x3 (x4 + 1) (qa_n C) cn bk iu mk pc fr ot dr ct rt') : ∃ m, wX_areaOf_84 post J x3 x4 (nI (h + 1)) (nI n) us m (nI w) 0 (qa_n C) cn bk iu mk pc fr ot dr ct rt := by
  refine pk_loop (fun m i r => wX_areaOf_84 post J x3 x4 (nI (h + 1)) (nI n) us m (nI (w + i)) (nI i) (qa_n C) cn bk iu mk pc fr ot dr ct r) (fun i r => (∀ j, j < w → r j = rt j) ∧ ∀ q, q < i → r (w + q) = nI (h * 460 + C (4 * n + q))) 4 0 rt (by omega) ⟨fun j _ => rfl, fun q hq => absurd hq (by omega)⟩ ?_ ?_
  · intro m r I
    exact br_t (by decide) (nm_e (H r I.1 I.2))
  · intro m i r hi I nx
    refine br_f (nI_ge (b := 4) hi (by decide)) ⟨pk_in (4 * n + i) 1840 (by omega) (qn_4 n i) (by decide), vp_in_nI (by omega) (by decide), qm_u (w + i) (nI (h * 460 + C (4 * n + i))) (qm_i (qm_i (nx _ ⟨fun j hj => ?_, fun q hq => ?_⟩))) rfl (by omega) ?_⟩
    · rw [pk_un (by omega)]; exact I.1 j hj
    · by_cases e : q = i
      · rw [e, pk_us]
      · rw [pk_un (by omega)]; exact I.2 q (by omega)
    · rw [nI_pred, qn_4, nI_clamp (by omega), show (460 : Int32) = nI 460 from rfl, pk_mul]
      exact nI_add _ _
theorem qx_ar18 {post : Int32 → SX → Prop} {C : Nat → Nat} : ∀ (h n w s st m : Nat) (rt : Nat → Int32), h ≤ 4 → qp_tr C h n → w + 3 * h + 1 ≤ 256 → st + qp_vs C h n ≤ 400 → rt w = nI (h * 460 + n) → (∀ rt' : Nat → Int32, (∀ i, i < w → rt' i = rt i) → wX_areaOf_18 post us m (nI w) (nI (s + qp_ar C h n)) (nI (st + qp_vs C h n)) (qa_n C) cn bk iu mk pc fr ot dr ct rt') → wX_areaOf_18 post us (m + qp_vs C h n) (nI (w + 1)) (nI s) (nI st) (qa_n C) cn bk iu mk pc fr ot dr ct rt := by
  intro h
  induction h with
  | zero =>
    intro n w s st m rt _ t hw hst hr H
    have hn : n ≤ 1 := t
    obtain ⟨p1, p2⟩ := qn_pop (h := 0) (n := n) (by omega) (by omega)
    refine br_f (nI_ge (b := 400) (by have : qp_vs C 0 n = 1 := rfl; omega) (by decide)) (br_f (nI_nle (by omega) (by omega)) (nm_r (pk_m1 w) ⟨vp_in_nI (by omega) (by decide), by decide, nm_r (e' := nI 0) (by rw [nI_clamp (by omega), hr]; exact p1) ⟨vp_in_nI (by omega) (by decide), by decide, nm_r (e' := nI n) (by rw [nI_clamp (by omega), hr]; exact p2) ?_⟩⟩))
    have H := H rt fun i _ => rfl
    refine pk_eq n 1 (fun e => ?_) (fun e => ?_)
    · subst e
      exact nm_r (by rw [qn_1sh 0 (by decide)]; exact nI_add s 1) (qm_i H)
    · have e0 : n = 0 := by omega
      subst e0
      exact br_t (by decide) (qm_i H)
  | succ h ih =>
    intro n w s st m rt hh t hw hst hr H
    have n4 := qp_tr_lt t
    obtain ⟨p1, p2⟩ := qn_pop (h := h + 1) (n := n) hh n4
    have vp := qp_vs_pos (C := C) (h + 1) n
    rw [show m + qp_vs C (h + 1) n = (m + (qp_vs C (h + 1) n - 1)) + 1 by omega]
    refine br_f (nI_ge (b := 400) (by omega) (by decide)) (br_f (nI_nle (by omega) (by omega)) (nm_r (pk_m1 w) ⟨vp_in_nI (by omega) (by decide), by decide, nm_r (e' := nI (h + 1)) (by rw [nI_clamp (by omega), hr]; exact p1) ⟨vp_in_nI (by omega) (by decide), by decide, nm_r (e' := nI n) (by rw [nI_clamp (by omega), hr]; exact p2) ?_⟩⟩))
    refine pk_eq n 1 (fun e => ?_) (fun e => ?_)
    · subst e
      have H := H rt fun i _ => rfl
      rw [qp_ar_e _ (by omega : (1 : Nat) ≤ 1), Nat.one_mul, qp_vs_e _ (by omega : (1 : Nat) ≤ 1)] at H
      rw [qp_vs_e _ (by omega : (1 : Nat) ≤ 1)]
      exact nm_r (by rw [qn_1sh (h + 1) (by omega)]; exact nI_add s _) (qm_i H)
    · by_cases hn : n ≤ 1
      · have e0 : n = 0 := by omega
        subst e0
        have H := H rt fun i _ => rfl
        rw [qp_ar_e _ (by omega : (0 : Nat) ≤ 1), Nat.zero_mul, qp_vs_e _ (by omega : (0 : Nat) ≤ 1)] at H
        rw [qp_vs_e _ (by omega : (0 : Nat) ≤ 1)]
        exact br_t (by decide) (qm_i H)
      · refine br_f (nI_ge (a := 1) (by omega) (by omega)) ?_
        rw [qp_vs_s _ hn] at hst H ⊢
        rw [qp_ar_s _ hn] at H
        refine qx_ar84 (by omega) n4 (by omega) fun r1 a1 b1 => ?_
        have c := qp_tr_c t hn
        rw [show m + (1 + qp_vs C h (C (4 * n)) + qp_vs C h (C (4 * n + 1)) + qp_vs C h (C (4 * n + 2)) + qp_vs C h (C (4 * n + 3)) - 1) = m + qp_vs C h (C (4 * n)) + qp_vs C h (C (4 * n + 1)) + qp_vs C h (C (4 * n + 2)) + qp_vs C h (C (4 * n + 3)) by omega, nI_1]
        refine ih _ (w + 3) s (st + 1) _ r1 (by omega) (c 3 (by decide)) (by omega) (by omega) (b1 3 (by decide)) fun r2 a2 => ?_
        refine ih _ (w + 2) _ _ _ r2 (by omega) (c 2 (by decide)) (by omega) (by omega) ((a2 _ (by omega)).trans (b1 2 (by decide))) fun r3 a3 => ?_
        refine ih _ (w + 1) _ _ _ r3 (by omega) (c 1 (by decide)) (by omega) (by omega) ((a3 _ (by omega)).trans ((a2 _ (by omega)).trans (b1 1 (by decide)))) fun r4 a4 => ?_
        refine ih _ w _ _ _ r4 (by omega) (c 0 (by decide)) (by omega) (by omega) ((a4 _ (by omega)).trans ((a3 _ (by omega)).trans ((a2 _ (by omega)).trans (b1 0 (by decide))))) fun r5 a5 => ?_
        have H := H r5 fun i hi => (a5 i hi).trans ((a4 i (by omega)).trans ((a3 i (by omega)).trans ((a2 i (by omega)).trans (a1 i hi))))
        have e1 : s + qp_ar C h (C (4 * n + 3)) + qp_ar C h (C (4 * n + 2)) + qp_ar C h (C (4 * n + 1)) + qp_ar C h (C (4 * n)) = s + (qp_ar C h (C (4 * n)) + qp_ar C h (C (4 * n + 1)) + qp_ar C h (C (4 * n + 2)) + qp_ar C h (C (4 * n + 3))) := by omega
        have e2 : st + 1 + qp_vs C h (C (4 * n + 3)) + qp_vs C h (C (4 * n + 2)) + qp_vs C h (C (4 * n + 1)) + qp_vs C h (C (4 * n)) = st + (1 + qp_vs C h (C (4 * n)) + qp_vs C h (C (4 * n + 1)) + qp_vs C h (C (4 * n + 2)) + qp_vs C h (C (4 * n + 3))) := by omega
        rw [e1, e2]
        exact H
theorem qx_area {post : Int32 → SX → Prop} {C : Nat → Nat} {n : Nat} (t : qp_tr C 4 n) (K : ∀ rt' : Nat → Int32, post (nI (qp_ar C 4 n)) (us, qa_n C, cn, bk, iu, mk, pc, fr, ot, dr, ct, rt')) : wpX_areaOf post (us, qa_n C, cn, bk, iu, mk, pc, fr, ot, dr, ct, rt) (nI n) := by
  have v := qp_vs_4 C n
  refine nm_r (e' := upd rt 0 (nI (4 * 460 + n))) (by rw [show (1840 : Int32) = nI 1840 from rfl, nI_add]) ?_
  refine ⟨1 + qp_vs C 4 n, qx_ar18 4 n 0 0 0 1 _ (by omega) t (by omega) (by omega) pk_us fun r _ => ?_⟩
  rw [Nat.zero_add, Nat.zero_add]
  exact br_f (nI_ge (b := 400) (by omega) (by decide)) (br_t (by decide) (K r))
end
end
section
/-! walks: intern -/
/-- more nodes in use, the old ones as they were -/
def qp_gr (C U C' U' : Nat → Nat) : Prop := (∀ n, U n = 1 → U' n = 1) ∧ ∀ n, 2 ≤ n → n < 460 → U n = 1 → ∀ q, q < 4 → C' (4 * n + q) = C (4 * n + q)
theorem qp_gr_r (C U : Nat → Nat) : qp_gr C U C U := ⟨fun _ h => h, fun _ _ _ _ _ _ => rfl⟩
theorem qp_gr_t {C U C' U' C'' U'' : Nat → Nat} (a : qp_gr C U C' U') (b : qp_gr C' U' C'' U'') : qp_gr C U C'' U'' :=
  ⟨fun n h => b.1 n (a.1 n h), fun n n2 n4 u q hq => (b.2 n n2 n4 (a.1 n u) q hq).trans (a.2 n n2 n4 u q hq)⟩
theorem qp_gr_k {C U C' U' : Nat → Nat} (cl : qp_cl C U) (g : qp_gr C U C' U') {h n : Nat} (u : U n = 1) (t : qp_tr C h n) : U' n = 1 ∧ qp_tr C' h n ∧ ∀ k, qp_ds C' h n k = qp_ds C h n k :=
  ⟨g.1 n u, qp_keep cl g.2 h n u t⟩
/-- r is the node with the quarters D -/
def qp_nd (C U D : Nat → Nat) (r : Nat) : Prop := r < 460 ∧ U r = 1 ∧ ((r ≤ 1 ∧ ∀ q, q < 4 → D q = r) ∨ (2 ≤ r ∧ ∀ q, q < 4 → C (4 * r + q) = D q))
def qa_cp (C : Nat → Nat) (f : Nat) (D : Nat → Nat) (i : Nat) : Nat → Nat := fun j => if j / 4 = f ∧ j % 4 < i then D (j % 4) else C j
theorem qa_cp_0 (C : Nat → Nat) (f : Nat) (D : Nat → Nat) : qa_cp C f D 0 = C := by
  funext j
  exact if_neg (by omega)
theorem qa_cp_4 (C : Nat → Nat) (f : Nat) (D : Nat → Nat) : qa_cp C f D 4 = qa_c4 C f D := by
  funext j
  unfold qa_cp qa_c4
  by_cases h : j / 4 = f
  · rw [if_pos h, if_pos ⟨h, Nat.mod_lt _ (by decide)⟩]
  · rw [if_neg h, if_neg (fun z => h z.1)]
theorem qa_cp_s (C : Nat → Nat) (f : Nat) (D : Nat → Nat) {i : Nat} (hi : i < 4) : qa_u (qa_cp C f D i) (4 * f + i) (D i) = qa_cp C f D (i + 1) := by
  funext j
  unfold qa_cp qa_u
  by_cases h : j = 4 * f + i
  · rw [if_pos h, if_pos (by omega), show j % 4 = i by omega]
  · rw [if_neg h]
    dsimp only
    by_cases h2 : j / 4 = f ∧ j % 4 < i
    · rw [if_pos h2, if_pos (by omega)]
    · rw [if_neg h2, if_neg (by omega)]
theorem qa_uu (C : Nat → Nat) (k v w : Nat) : qa_u (qa_u C k v) k w = qa_u C k w := by
  funext j
  unfold qa_u
  by_cases h : j = k
  · rw [if_pos h, if_pos h]
  · rw [if_neg h, if_neg h, if_neg h]
section
variable {us : Int32} {ch cn bk iu mk pc fr ot dr ct rt : Nat → Int32}
theorem qx_isD {post : Int32 → Prop} {C D : Nat → Nat} {n : Nat} (n4 : n < 460) (hC : ∀ q, q < 4 → C (4 * n + q) < 460) (hd : ∀ q, q < 4 → dr q = nI (D q) ∧ D q < 460) (K1 : (∀ q, q < 4 → C (4 * n + q) = D q) → post 1) (K0 : (¬ ∀ q, q < 4 → C (4 * n + q) = D q) → post 0) : wpX_isDraft post (us, qa_n C, cn, bk, iu, mk, pc, fr, ot, dr, ct, rt) (nI n) := by
  refine pk_loop (σ := Unit) (fun m i _ => wX_isDraft_2 post (nI n) us (qa_n C) cn bk iu mk pc fr ot dr ct rt m (nI i)) (fun i _ => ∀ q, q < i → C (4 * n + q) = D q) 4 0 () (by omega) (fun q hq => absurd hq (by omega)) ?_ ?_
  · intro m _ I
    exact br_t (by decide) (K1 I)
  · intro m i _ hi I nx
    refine br_f (nI_ge (b := 4) hi (by decide)) ⟨pk_in (4 * n + i) 1840 (by omega) (qn_4 n i) (by decide), vp_in_nI hi (by decide), ?_⟩
    have h1 := hC i hi
    have h2 := (hd i hi).2
    refine pk_eq (C (4 * n + i)) (D i) (fun e => qm_i (nx () fun q hq => ?_)) (fun e => K0 fun z => e (z i hi)) (qm_r (4 * n + i) rfl (qn_4 n i) (by omega)) (qm_r i (hd i hi).1) (by omega) (by omega)
    by_cases c : q = i
    · rw [c]; exact e
    · exact I q (by omega)
theorem qx_in107 {post : Int32 → SX → Prop} {C D N : Nat → Nat} {x3 : Int32} (hd : ∀ q, q < 4 → dr q = nI (D q) ∧ D q < 460) : ∀ (L : List Nat) (b st : Nat), qp_ch N L b → (∀ x, x ∈ L → 2 ≤ x ∧ x < 460 ∧ ∀ q, q < 4 → C (4 * x + q) < 460) → st + L.length < 460 → (∀ x, x ∈ L → (∀ q, q < 4 → C (4 * x + q) = D q) → post (nI x) (us, qa_n C, qa_n N, bk, iu, mk, pc, fr, ot, dr, ct, rt)) → ((∀ x, x ∈ L → ¬ ∀ q, q < 4 → C (4 * x + q) = D q) → ∃ m, wX_intern_150 post x3 us (qa_n C) (qa_n N) bk iu mk pc fr ot dr ct rt m 2) → wX_intern_107 post x3 us (qa_n C) (qa_n N) bk iu mk pc fr ot dr ct rt (L.length + 1) (nI b) (nI st) := by
  intro L
  induction L with
  | nil =>
    intro b st h _ hs _ miss
    have e : b = 0 := h
    subst e
    exact br_f (nI_ge (b := 460) hs (by decide)) (br_t rfl (miss fun x hx => absurd hx List.not_mem_nil))
  | cons x L ih =>
    intro b st h hL hs hit miss
    obtain ⟨rfl, h⟩ := h
    obtain ⟨b2, b4, bc⟩ := hL b List.mem_cons_self
    rw [List.length_cons] at hs
    refine br_f (nI_ge (b := 460) (by omega) (by decide)) (br_f (nI_ne0 (by omega) (by omega)) ?_)
    refine qx_isD b4 bc hd (fun e => br_f (by decide) (hit b List.mem_cons_self e)) (fun e => br_t rfl ⟨vp_in_nI b4 (by decide), qm_g b (qm_i (ih _ (st + 1) h (fun y hy => hL y (List.mem_cons_of_mem _ hy)) (by omega) (fun y hy => hit y (List.mem_cons_of_mem _ hy)) fun z => miss fun y hy => ?_))⟩)
    rcases List.mem_cons.mp hy with c | c
    · rw [c]; exact e
    · exact z y c
theorem qx_in150 {post : Int32 → SX → Prop} {U : Nat → Nat} {x3 : Int32} (ub : ∀ n, U n ≤ 1) (free : ∃ f, 2 ≤ f ∧ f < 460 ∧ U f = 0) (K : ∀ f, 2 ≤ f → f < 460 → U f = 0 → wX_intern_174 post x3 (nI f) us ch cn bk (qa_n U) mk pc fr ot dr ct rt) : ∃ m, wX_intern_150 post x3 us ch cn bk (qa_n U) mk pc fr ot dr ct rt m 2 := by
  refine pk_loop (σ := Unit) (fun m i _ => wX_intern_150 post x3 us ch cn bk (qa_n U) mk pc fr ot dr ct rt m (nI i)) (fun i _ => 2 ≤ i ∧ ∀ j, 2 ≤ j → j < i → U j = 1) 459 2 () (by omega) ⟨by omega, fun j _ hj => absurd hj (by omega)⟩ ?_ ?_
  · intro m _ I
    obtain ⟨f, f2, f4, uf⟩ := free
    have e : f = 459 := Classical.byContradiction fun z => by
      have := I.2 f f2 (by omega)
      omega
    subst e
    exact br_t (by decide) (K 459 f2 f4 uf)
  · intro m i _ hi I nx
    refine br_f (nI_ge (b := 459) hi (by decide)) ⟨vp_in_nI (by omega) (by decide), ?_⟩
    have := ub i
    refine pk_eq (U i) 0 (fun e => K i I.1 (by omega) e) (fun e => qm_i (nx () ⟨by omega, fun j j2 hj => ?_⟩)) (qm_r i rfl) rfl (by omega) (by omega)
    by_cases c : j = i
    · rw [c]; omega
    · exact I.2 j j2 (by omega)
theorem qx_in174 {post : Int32 → SX → Prop} {C D N B U T : Nat → Nat} {u key f : Nat} (hk : key < 64) (f4 : f < 460) (hd : ∀ q, q < 4 → dr q = nI (D q) ∧ D q < 460 ∧ D q ≠ f) (K : post (nI f) (nI (u + 1), qa_n (qa_c4 C f D), qa_n (qa_u N f (B key)), qa_n (qa_u B key f), qa_n (qa_u U f 1), mk, pc, fr, ot, dr, qa_n (qa_u T f (qp_tl T (D 0) + qp_tl T (D 1) + qp_tl T (D 2) + qp_tl T (D 3))), rt)) : wX_intern_174 post (nI key) (nI f) (nI u) (qa_n C) (qa_n N) (qa_n B) (qa_n U) mk pc fr ot dr (qa_n T) rt := by
  refine And.intro (vp_in_nI f4 (by decide)) (qm_t f 1 (qm_i ⟨vp_in_nI f4 (by decide), qm_t f 0 ?_⟩))
  refine pk_loop (σ := (Nat → Int32) × (Nat → Int32)) (fun m i s => wX_intern_203 post (nI key) (nI f) (nI (u + 1)) m (nI i) s.1 (qa_n N) (qa_n B) (qa_n (qa_u U f 1)) mk pc fr ot dr s.2 rt) (fun i s => s = (qa_n (qa_cp C f D i), qa_n (qa_u T f (qp_sum (fun q => qp_tl T (D q)) i)))) 4 0 (qa_n C, qa_n (qa_u T f 0)) (by omega) (by rw [qa_cp_0]; rfl) ?_ ?_
  · intro m s I
    subst I
    refine br_t (by decide) ⟨vp_in_nI hk (by decide), vp_in_nI f4 (by decide), qm_t f (B key) ⟨vp_in_nI hk (by decide), qm_t key f ?_⟩ rfl (by omega) (by rw [nI_clamp (by omega)]; rfl)⟩
    rw [← qa_cp_4] at K
    have e : qp_sum (fun q => qp_tl T (D q)) 4 = qp_tl T (D 0) + qp_tl T (D 1) + qp_tl T (D 2) + qp_tl T (D 3) := by
      show 0 + qp_tl T (D 0) + qp_tl T (D 1) + qp_tl T (D 2) + qp_tl T (D 3) = _
      rw [Nat.zero_add]
    rw [← e] at K
    exact K
  · intro m i s hi I nx
    subst I
    obtain ⟨d1, d2, d3⟩ := hd i hi
    have hx : (qa_n (qa_cp C f D (i + 1)), qa_n (qa_u T f (qp_sum (fun q => qp_tl T (D q)) (i + 1)))) = (qa_n (qa_cp C f D (i + 1)), qa_n (qa_u T f (qp_sum (fun q => qp_tl T (D q)) i + qp_tl T (D i)))) := rfl
    have nx := nx _ hx.symm
    refine br_f (nI_ge (b := 4) hi (by decide)) ⟨vp_in_nI hi (by decide), pk_in (4 * f + i) 1840 (by omega) (qn_4 f i) (by decide), qm_t (4 * f + i) (D i) ?_ (qn_4 f i) (by omega) (qm_r i d1)⟩
    rw [qa_cp_s C f D hi]
    refine ⟨vp_in_nI f4 (by decide), vp_in_nI hi (by decide), ?_⟩
    refine pk_lt 1 (D i) (fun e => ⟨vp_in_nI hi (by decide), pk_in (D i) 460 d2 (qm_r i d1) (by decide), vp_in_nI f4 (by decide), ?_⟩) (fun e => ⟨vp_in_nI f4 (by decide), ?_⟩) rfl (qm_r i d1) (by omega) (by omega)
    · have tl : qp_tl T (D i) = T (D i) := if_neg (by omega)
      rw [tl] at nx
      refine qm_t f (qp_sum (fun q => qp_tl T (D q)) i + T (D i)) (qm_i ?_) rfl (by omega) ?_
      · rw [qa_uu]; exact nx
      · dsimp only
        rw [nI_clamp (by omega), nI_clamp (by omega), d1, nI_clamp (by omega), qa_at, qa_at, qa_us, qa_un T d3]
        exact nI_add _ _
    · have tl : qp_tl T (D i) = 1 := if_pos e
      rw [tl] at nx
      refine qm_t f (qp_sum (fun q => qp_tl T (D q)) i + 1) (qm_i ?_) rfl (by omega) ?_
      · rw [qa_uu]; exact nx
      · dsimp only
        rw [nI_clamp (by omega), qa_at, qa_us]
        exact nI_1 _
theorem qx_intern {post : Int32 → SX → Prop} {C D N B U T : Nat → Nat} {u : Nat} (st : qp_St u C N B U T) (hu : u < 460) (hd : ∀ q, q < 4 → dr q = nI (D q) ∧ D q < 460 ∧ U (D q) = 1) (K : ∀ (u' : Nat) (C' N' B' U' T' : Nat → Nat) (r : Nat), qp_St u' C' N' B' U' T' → u' ≤ u + 1 → qp_gr C U C' U' → qp_nd C' U' D r → post (nI r) (nI u', qa_n C', qa_n N', qa_n B', qa_n U', mk, pc, fr, ot, dr, qa_n T', rt)) : wpX_intern post (nI u, qa_n C, qa_n N, qa_n B, qa_n U, mk, pc, fr, ot, dr, qa_n T, rt) := by
  have h0 := hd 0 (by decide)
  have h1 := hd 1 (by decide)
  have h2 := hd 2 (by decide)
  have h3 := hd 3 (by decide)
  by_cases ev : D 0 ≤ 1 ∧ D 1 = D 0 ∧ D 2 = D 0 ∧ D 3 = D 0
  · obtain ⟨e0, e1, e2, e3⟩ := ev
    refine nm_r h0.1 (br_f (nI_nlt (a := 1) e0 (by decide)) (br_t (by rw [h1.1, e1]) (br_t (by rw [h2.1, e2]) (br_t (by rw [h3.1, e3]) (K u C N B U T (D 0) st (by omega) (qp_gr_r C U) ⟨h0.2.1, h0.2.2, Or.inl ⟨e0, fun q hq => ?_⟩⟩)))))
    match q, hq with
    | 0, _ => rfl
    | 1, _ => exact e1
    | 2, _ => exact e2
    | 3, _ => exact e3
  · have H : wX_intern_44 post (nI u) (qa_n C) (qa_n N) (qa_n B) (qa_n U) mk pc fr ot dr (qa_n T) rt := by
      obtain ⟨k1, k2⟩ := qp_key_hx (D 0) (D 1) (D 2) (D 3)
      have k1 : qp_hx (dr 0) (dr 1) (dr 2) (dr 3) = nI (qp_key (D 0) (D 1) (D 2) (D 3)) := by rw [h0.1, h1.1, h2.1, h3.1]; exact k1
      have st' := st
      obtain ⟨u0, u1, ub, cl, can, un, tc, cs, cu⟩ := st'
      obtain ⟨L, l1, l2, l3⟩ := cs _ k2
      have hlen : L.length ≤ 458 := by
        have := List.Nodup.length_le_of_subset (l₂ := List.range' 2 458) l2 (fun x hx => by
          have := (l3 x).mp hx
          rw [List.mem_range'_1]
          omega)
        rw [List.length_range'] at this
        exact this
      refine nm_e (nm_r k1 ⟨vp_in_nI k2 (by decide), qm_g _ ?_ rfl (by omega)⟩)
      refine ⟨L.length + 1, qx_in107 (fun q hq => ⟨(hd q hq).1, (hd q hq).2.1⟩) L _ 0 l1 (fun x hx => ?_) (by omega) (fun x hx e => ?_) (fun miss => ?_)⟩
      · obtain ⟨x2, x4, ux, -⟩ := (l3 x).mp hx
        exact ⟨x2, x4, fun q hq => (cl x x2 x4 ux q hq).1⟩
      · obtain ⟨x2, x4, ux, -⟩ := (l3 x).mp hx
        exact K u C N B U T x st (by omega) (qp_gr_r C U) ⟨x4, ux, Or.inr ⟨x2, e⟩⟩
      · have free : ∃ f, 2 ≤ f ∧ f < 460 ∧ U f = 0 := by
          obtain ⟨f, f4, e⟩ := qp_cn_ex (p := fun n => U n == 1) (n := 460) (by omega)
          have e : U f ≠ 1 := by simpa using e
          have := ub f
          refine ⟨f, ?_, f4, by omega⟩
          apply Classical.byContradiction
          intro z
          rcases (by omega : f = 0 ∨ f = 1) with c | c
          · rw [c] at e; exact e u0
          · rw [c] at e; exact e u1
        refine qx_in150 ub free fun f f2 f4 uf => ?_
        have ne : ∀ n, U n = 1 → n ≠ f := fun n hn c => by rw [c, uf] at hn; exact absurd hn (by decide)
        have ns := qp_new st f2 f4 uf (fun q hq => (hd q hq).2) ev (fun n n2 n4 hn e => ?_) rfl
        · refine qx_in174 k2 f4 (fun q hq => ⟨(hd q hq).1, (hd q hq).2.1, ne _ (hd q hq).2.2⟩) (K _ _ _ _ _ _ f ns (by omega) ⟨fun n hn => ?_, fun n n2 n4 hn q hq => qa_c4_n C D hq (ne n hn)⟩ ⟨f4, qa_us U f 1, Or.inr ⟨f2, fun q hq => qa_c4_s C f D hq⟩⟩)
          rw [qa_un U (ne n hn)]; exact hn
        · refine miss n ((l3 n).mpr ⟨n2, n4, hn, ?_⟩) e
          unfold qp_hk
          rw [← e 1 (by decide), ← e 2 (by decide), ← e 3 (by decide), ← e 0 (by decide)]
          rfl
    refine nm_r h0.1 (pk_lt 1 (D 0) (fun _ => H) (fun c0 => pk_eq (D 1) (D 0) (fun c1 => pk_eq (D 2) (D 0) (fun c2 => pk_eq (D 3) (D 0) (fun c3 => absurd ⟨c0, c1, c2, c3⟩ ev) (fun _ => H) h3.1 rfl (by omega) (by omega)) (fun _ => H) h2.1 rfl (by omega) (by omega)) (fun _ => H) h1.1 rfl (by omega) (by omega)) rfl rfl (by omega) (by omega))
end
end
section
/-! walks: makeRoom -/
theorem qm_n1 {a : Nat → Int32} {x : Int32} (k : Nat) (hv : a k = nI 1) (hx : x = nI k := by rfl) (hk : k < 2 ^ 31 := by omega) : ¬ a x.toNatClampNeg = 0 := by
  rw [qm_r (v := nI 1) k hv hx hk]
  decide
section
variable {us : Int32} {ch cn bk iu mk pc fr ot dr ct rt : Nat → Int32}
theorem qx_kc7 {post : Int32 → SX → Prop} {M : Nat → Nat} (hM : ∀ n, n < 460 → M n = 0 ∨ M n = 1) : ∀ (L K : List Nat) (b kept st : Nat) (N : Nat → Nat), qp_ch N L b → qp_ch N K kept → L.Nodup → (∀ x, x ∈ L → 2 ≤ x ∧ x < 460 ∧ ¬ x ∈ K) → st + L.length < 460 → (∀ (N' : Nat → Nat) (b' : Nat), (∀ x, ¬ x ∈ L → N' x = N x) → qp_ch N' (qp_kp M L K) b' → post (nI b') (us, ch, qa_n N', bk, iu, qa_n M, pc, fr, ot, dr, ct, rt)) → wX_keptChain_7 post us (L.length + 1) (nI kept) (nI b) (nI st) ch (qa_n N) bk iu (qa_n M) pc fr ot dr ct rt := by
  intro L
  induction L with
  | nil =>
    intro K b kept st N h hK _ _ hs H
    have e : b = 0 := h
    subst e
    exact br_f (nI_ge (b := 460) hs (by decide)) (br_t rfl (H N kept (fun _ _ => rfl) hK))
  | cons x L ih =>
    intro K b kept st N h hK nd hL hs H
    obtain ⟨rfl, h⟩ := h
    obtain ⟨b2, b4, bK⟩ := hL b List.mem_cons_self
    obtain ⟨n1, n2⟩ := List.nodup_cons.mp nd
    rw [List.length_cons] at hs
    refine br_f (nI_ge (b := 460) (by omega) (by decide)) (br_f (nI_ne0 (by omega) (by omega)) ⟨vp_in_nI b4 (by decide), qm_g b ⟨vp_in_nI b4 (by decide), ?_⟩⟩)
    have hm := hM b b4
    refine pk_eq (M b) 0 (fun e => qm_i ?_) (fun e => ⟨vp_in_nI b4 (by decide), qm_t b kept (qm_i ?_)⟩) (qm_r b rfl) rfl (by omega) (by omega)
    · refine ih K _ kept (st + 1) N h hK n2 (fun y hy => hL y (List.mem_cons_of_mem _ hy)) (by omega) fun N' b' h1 h2 => H N' b' (fun y hy => h1 y fun z => hy (List.mem_cons_of_mem _ z)) ?_
      show qp_ch N' (if M b = 0 then _ else _) b'
      rw [if_pos e]
      exact h2
    · refine ih (b :: K) _ b (st + 1) (qa_u N b kept) ?_ ⟨rfl, ?_⟩ n2 (fun y hy => ?_) (by omega) fun N' b' h1 h2 => H N' b' (fun y hy => ?_) ?_
      · exact qp_ch_congr L _ (fun y hy => qa_un N fun z => n1 (z ▸ hy)) h
      · rw [qa_us]
        exact qp_ch_congr K _ (fun y hy => qa_un N fun z => bK (z ▸ hy)) hK
      · obtain ⟨y2, y4, yK⟩ := hL y (List.mem_cons_of_mem _ hy)
        refine ⟨y2, y4, fun z => ?_⟩
        rcases List.mem_cons.mp z with c | c
        · exact n1 (c ▸ hy)
        · exact yK c
      · rw [h1 y fun z => hy (List.mem_cons_of_mem _ z)]
        exact qa_un N fun z => hy (z ▸ List.mem_cons_self)
      · show qp_ch N' (if M b = 0 then _ else _) b'
        rw [if_neg e]
        exact h2
/-- the chains while the sweep is at key i -/
def qp_ci (C U M : Nat → Nat) (i : Nat) (N B : Nat → Nat) : Prop := ∀ key, key < 64 → ∃ L : List Nat, qp_ch N L (B key) ∧ L.Nodup ∧ ∀ n, n ∈ L ↔ (2 ≤ n ∧ n < 460 ∧ U n = 1 ∧ qp_hk C n = key) ∧ (key < i → ¬ M n = 0)
theorem qx_mr115 {post : SX → Prop} {C U M : Nat → Nat} (hM : ∀ n, n < 460 → M n = 0 ∨ M n = 1) {N B : Nat → Nat} (I0 : qp_ci C U M 0 N B) (H : ∀ N' B' : Nat → Nat, qp_ci C U M 64 N' B' → ∃ n, wX_makeRoom_150 post n 2 2 ch (qa_n N') (qa_n B') iu (qa_n M) pc fr ot dr ct rt) : ∃ n, wX_makeRoom_115 post n 0 us ch (qa_n N) (qa_n B) iu (qa_n M) pc fr ot dr ct rt := by
  refine pk_loop (σ := (Nat → Int32) × (Nat → Int32)) (fun n i s => wX_makeRoom_115 post n (nI i) us ch s.1 s.2 iu (qa_n M) pc fr ot dr ct rt) (fun i s => ∃ N B : Nat → Nat, s = (qa_n N, qa_n B) ∧ qp_ci C U M i N B) 64 0 (qa_n N, qa_n B) (by omega) ⟨N, B, rfl, I0⟩ ?_ ?_
  · rintro n s ⟨N, B, rfl, I⟩
    exact br_t (by decide) (H N B I)
  · rintro n i s hi ⟨N, B, rfl, I⟩ nx
    obtain ⟨L, l1, l2, l3⟩ := I i hi
    have hlen : L.length ≤ 458 := by
      have := List.Nodup.length_le_of_subset (l₂ := List.range' 2 458) l2 (fun x hx => by
        have := ((l3 x).mp hx).1
        rw [List.mem_range'_1]
        omega)
      rw [List.length_range'] at this
      exact this
    refine br_f (nI_ge (b := 64) hi (by decide)) ⟨vp_in_nI hi (by decide), ?_⟩
    have e : (qa_n B (nI i).toNatClampNeg) = nI (B i) := qm_r i rfl
    dsimp only
    rw [e]
    refine Exists.intro (L.length + 1) (qx_kc7 hM L [] (B i) 0 0 N l1 rfl l2 (fun x hx => ?_) (by omega) fun N' b' h1 h2 => ⟨vp_in_nI hi (by decide), qm_t i b' (qm_i (nx _ ⟨N', qa_u B i b', rfl, fun key hk => ?_⟩))⟩)
    · have := ((l3 x).mp hx).1
      exact ⟨this.1, this.2.1, List.not_mem_nil⟩
    · by_cases c : key = i
      · subst c
        refine ⟨qp_kp M L [], ?_, qp_kp_nd L [] l2 List.nodup_nil (fun x _ => List.not_mem_nil), fun m => ?_⟩
        · rw [qa_us]; exact h2
        · rw [qp_kp_mem, l3 m]
          constructor
          · rintro (⟨⟨a, -⟩, b⟩ | a)
            · exact ⟨a, fun _ => b⟩
            · exact absurd a List.not_mem_nil
          · rintro ⟨a, b⟩
            exact Or.inl ⟨⟨a, fun z => absurd z (by omega)⟩, b (by omega)⟩
      · obtain ⟨K, k1, k2, k3⟩ := I key hk
        refine ⟨K, ?_, k2, fun m => ?_⟩
        · rw [qa_un B c]
          refine qp_ch_congr K _ (fun x hx => h1 x fun z => ?_) k1
          have a := ((k3 x).mp hx).1.2.2.2
          have b := ((l3 x).mp z).1.2.2.2
          omega
        · rw [k3 m]
          constructor
          · rintro ⟨a, b⟩
            exact ⟨a, fun z => b (by omega)⟩
          · rintro ⟨a, b⟩
            exact ⟨a, fun z => b (by omega)⟩
theorem qp_sw_2 (U M : Nat → Nat) : qp_sw U M 2 = U := by
  funext n
  exact if_neg (by omega)
theorem qp_sw_s (U M : Nat → Nat) {i : Nat} (h2 : 2 ≤ i) : qa_u (qp_sw U M i) i (if U i = 1 ∧ M i = 1 then 1 else 0) = qp_sw U M (i + 1) := by
  funext n
  unfold qa_u qp_sw
  by_cases h : n = i
  · subst h
    rw [if_pos rfl, if_pos (show 2 ≤ n ∧ n < n + 1 by omega)]
  · rw [if_neg h]
    by_cases c : 2 ≤ n ∧ n < i
    · rw [if_pos c, if_pos (show 2 ≤ n ∧ n < i + 1 by omega)]
    · rw [if_neg c, if_neg (show ¬ (2 ≤ n ∧ n < i + 1) by omega)]
theorem qx_mr150 {post : SX → Prop} {U M : Nat → Nat} (u0 : U 0 = 1) (u1 : U 1 = 1) (ub : ∀ n, U n ≤ 1) (hM : ∀ n, n < 460 → M n = 0 ∨ M n = 1) (K : post (nI (qp_cn (fun n => qp_sw U M 460 n == 1) 460), ch, cn, bk, qa_n (qp_sw U M 460), qa_n M, pc, fr, ot, dr, ct, rt)) : ∃ n, wX_makeRoom_150 post n 2 2 ch cn bk (qa_n U) (qa_n M) pc fr ot dr ct rt := by
  refine pk_loop (σ := Int32 × (Nat → Int32)) (fun n i s => wX_makeRoom_150 post n (nI i) s.1 ch cn bk s.2 (qa_n M) pc fr ot dr ct rt) (fun i s => 2 ≤ i ∧ s = (nI (qp_cn (fun n => qp_sw U M i n == 1) i), qa_n (qp_sw U M i))) 460 2 (2, qa_n U) (by omega) ⟨by omega, ?_⟩ ?_ ?_
  · rw [qp_sw_2]
    have : qp_cn (fun n => U n == 1) 2 = 2 := by
      show 0 + (if U 0 == 1 then 1 else 0) + (if U 1 == 1 then 1 else 0) = 2
      rw [u0, u1]; rfl
    rw [this]; rfl
  · rintro n s ⟨-, rfl⟩
    exact br_t (by decide) K
  · rintro n i s hi ⟨i2, rfl⟩ nx
    have nx := nx _ ⟨by omega, rfl⟩
    have ui : qp_sw U M i i = U i := if_neg (by omega)
    have hu := ub i
    have hm := hM i (by omega)
    have cc : qp_cn (fun n => qp_sw U M (i + 1) n == 1) (i + 1) = qp_cn (fun n => qp_sw U M i n == 1) i + (if U i = 1 ∧ M i = 1 then 1 else 0) := by
      have a : qp_cn (fun n => qp_sw U M (i + 1) n == 1) i = qp_cn (fun n => qp_sw U M i n == 1) i := qp_cn_congr i fun j hj => by
        rw [← qp_sw_s U M i2, qa_un _ (by omega)]
      have b : qp_sw U M (i + 1) i = (if U i = 1 ∧ M i = 1 then 1 else 0) := by rw [← qp_sw_s U M i2, qa_us]
      show qp_cn (fun n => qp_sw U M (i + 1) n == 1) i + (if qp_sw U M (i + 1) i == 1 then 1 else 0) = _
      rw [a, b]
      by_cases c : U i = 1 ∧ M i = 1
      · rw [if_pos c]; rfl
      · rw [if_neg c]; rfl
    rw [cc] at nx
    have z0 : (if U i = 1 ∧ M i = 1 then 1 else 0) = 0 → wX_makeRoom_184 post (wX_makeRoom_150 post n) (nI i) (nI i) (nI (qp_cn (fun n => qp_sw U M i n == 1) i)) ch cn bk (qa_n (qp_sw U M i)) (qa_n M) pc fr ot dr ct rt := by
      intro z
      rw [← qp_sw_s U M i2, z] at nx
      exact And.intro (vp_in_nI hi (by decide)) (qm_t i 0 ⟨vp_in_nI hi (by decide), br_t (qm_r i (by rw [qa_at, qa_us]; rfl)) (nm_r (nI_add _ 0) (qm_i nx))⟩)
    refine br_f (nI_ge (b := 460) hi (by decide)) ⟨vp_in_nI hi (by decide), pk_eq (U i) 0 (fun e => z0 (if_neg (by omega))) (fun e => ⟨vp_in_nI hi (by decide), pk_eq (M i) 0 (fun e => z0 (if_neg (by omega))) (fun e2 => ?_) (qm_r i rfl) rfl (by omega) (by omega)⟩) (qm_r i (congrArg nI ui)) rfl (by omega) (by omega)⟩
    have z : (if U i = 1 ∧ M i = 1 then 1 else 0) = 1 := if_pos (by omega)
    rw [← qp_sw_s U M i2, z] at nx
    exact And.intro (vp_in_nI hi (by decide)) (qm_t i 1 ⟨vp_in_nI hi (by decide), br_f (qm_n1 i (congrArg nI (qa_us _ i 1))) (qm_i (qm_i nx))⟩)
theorem qx_mr63 {post : SX → Prop} {C U P : Nat → Nat} (cl : qp_cl C U) (hp : qp_pic C U P) {M : Nat → Nat} (I0 : qp_mi C P 0 M) (H : ∀ M' : Nat → Nat, qp_mi C P 4 M' → ∃ n, wX_makeRoom_115 post n 0 us (qa_n C) cn bk iu (qa_n M') pc fr ot dr ct rt) : ∃ n, wX_makeRoom_63 post us n 0 (qa_n C) cn bk iu (qa_n M) pc fr ot dr ct rt := by
  refine pk_loop (fun n i m => wX_makeRoom_63 post us n (nI i) (qa_n C) cn bk iu m pc fr ot dr ct rt) (fun i m => ∃ M : Nat → Nat, m = qa_n M ∧ qp_mi C P i M) 4 0 (qa_n M) (by omega) ⟨M, rfl, I0⟩ ?_ ?_
  · rintro n m ⟨M, rfl, I⟩
    exact br_t (by decide) (H M I)
  · rintro n r m hr ⟨M, rfl, I⟩ nx
    refine br_f (nI_ge (b := 4) hr (by decide)) ?_
    refine pk_loop (fun n' k m => wX_makeRoom_71 post (wX_makeRoom_63 post us n) (nI r) us n' (nI k) (qa_n C) cn bk iu m pc fr ot dr ct rt) (fun k m => 8 ≤ k ∧ ∃ M : Nat → Nat, m = qa_n M ∧ qp_mj C P r k M) 1840 8 (qa_n M) (by omega) ⟨by omega, M, rfl, qp_mj_0 I⟩ ?_ ?_
    · rintro n' m ⟨-, M, rfl, I⟩
      exact br_t (by decide) (qm_i (nx _ ⟨M, rfl, qp_mj_e cl hp hr I⟩))
    · rintro n' k m hk ⟨k8, M, rfl, I⟩ nx2
      have d : nI k / 4 = nI (k / 4) := pk_div (d := 4) (by omega) (by decide) (by decide)
      have hv := I.1.1 (k / 4) (by omega)
      refine br_f (nI_ge (b := 1840) hk (by decide)) ⟨by decide, pk_in (k / 4) 460 (by omega) d (by decide), pk_eq (M (k / 4)) 0 (fun e => qm_i (nx2 _ ⟨by omega, M, rfl, qp_mj_n I e⟩)) (fun e => ?_) (qm_r (k / 4) rfl d (by omega)) rfl (by omega) (by omega)⟩
      obtain ⟨c4, I2⟩ := qp_mj_y cl hp k8 hk I e
      exact ⟨vp_in_nI hk (by decide), pk_in (C k) 460 c4 (qm_r k rfl) (by decide), qm_t (C k) 1 (qm_i (nx2 _ ⟨by omega, _, rfl, I2⟩)) (qm_r k rfl) (by omega) rfl⟩
theorem qx_room {post : SX → Prop} {C N B U T P : Nat → Nat} {u : Nat} (st : qp_St u C N B U T) (hp : qp_pic C U P) (K : ∀ (u' : Nat) (N' B' U' : Nat → Nat) (mk' : Nat → Int32), qp_St u' C N' B' U' T → qp_pic C U' P → u' ≤ 370 → post (nI u', qa_n C, qa_n N', qa_n B', qa_n U', mk', qa_n P, fr, ot, dr, qa_n T, rt)) : wpX_makeRoom post (nI u, qa_n C, qa_n N, qa_n B, qa_n U, mk, qa_n P, fr, ot, dr, qa_n T, rt) := by
  have st' := st
  obtain ⟨u0, u1, ub, cl, can, un, tc, cs, cu⟩ := st'
  have hu : u ≤ 460 := by rw [cu]; exact qp_cn_le _ _
  refine pk_lt 460 (u + 90) (fun _ => ?_) (fun h => K u N B U mk st hp (by omega)) rfl (nI_add u 90) (by decide) (by omega)
  obtain ⟨M0, rfl⟩ := qa_of mk
  refine pk_loop (fun n i m => wX_makeRoom_16 post (nI u) n (nI i) (qa_n C) (qa_n N) (qa_n B) (qa_n U) m (qa_n P) fr ot dr (qa_n T) rt) (fun i m => ∃ M : Nat → Nat, m = qa_n M ∧ ∀ n, n < i → M n = 0) 460 0 (qa_n M0) (by omega) ⟨M0, rfl, fun n hn => absurd hn (by omega)⟩ ?_ ?_
  · rintro n m ⟨M, rfl, hM⟩
    refine br_t (by decide) ?_
    refine pk_loop (fun n i m => wX_makeRoom_38 post (nI u) n (nI i) (qa_n C) (qa_n N) (qa_n B) (qa_n U) m (qa_n P) fr ot dr (qa_n T) rt) (fun i m => ∃ M : Nat → Nat, m = qa_n M ∧ (∀ n, n < 460 → M n = 0 ∨ (M n = 1 ∧ qp_rn C P n)) ∧ ∀ p, p < i → M (P p) = 1) 3 0 (qa_n M) (by omega) ⟨M, rfl, fun n hn => Or.inl (hM n hn), fun p hp => absurd hp (by omega)⟩ ?_ ?_
    · rintro n m ⟨M, rfl, h1, h2⟩
      refine br_t (by decide) (qx_mr63 cl hp ⟨h1, fun j hj n hn => ?_⟩ fun M' I => ?_)
      · have e : j = 0 := by omega
        subst e
        have : n = P 0 ∨ n = P 1 ∨ n = P 2 := by simpa [qp_rl] using hn
        rcases this with e | e | e
        · rw [e]; exact h2 0 (by decide)
        · rw [e]; exact h2 1 (by decide)
        · rw [e]; exact h2 2 (by decide)
      · have m01 : ∀ n, n < 460 → M' n = 0 ∨ M' n = 1 := fun n hn => (I.1 n hn).imp_right And.left
        refine qx_mr115 (C := C) (U := U) m01 (fun key hk => ?_) fun N' B' ci => qx_mr150 u0 u1 ub m01 ?_
        · obtain ⟨L, l1, l2, l3⟩ := cs key hk
          exact ⟨L, l1, l2, fun n => (l3 n).trans ⟨fun z => ⟨z, fun w => absurd w (by omega)⟩, And.left⟩⟩
        · have su : ∀ n, 2 ≤ n → n < 460 → (qp_sw U M' 460 n = 1 ↔ U n = 1 ∧ M' n = 1) := fun n n2 n4 => by
            unfold qp_sw
            rw [if_pos ⟨n2, n4⟩]
            by_cases c : U n = 1 ∧ M' n = 1
            · rw [if_pos c]; exact ⟨fun _ => c, fun _ => rfl⟩
            · rw [if_neg c]; exact ⟨fun z => absurd z (by decide), fun z => absurd z c⟩
          have s0 : qp_sw U M' 460 0 = 1 := by unfold qp_sw; rw [if_neg (by omega)]; exact u0
          have s1 : qp_sw U M' 460 1 = 1 := by unfold qp_sw; rw [if_neg (by omega)]; exact u1
          have rnm : ∀ n, n < 460 → qp_rn C P n → 2 ≤ n → M' n = 1 := fun n n4 h n2 => by
            obtain ⟨j, hj, hn⟩ := h
            exact I.2 j hj n hn
          refine K _ N' B' _ _ (qp_swp (M := M') st s0 s1 (fun n => ?_) su (fun n n2 n4 un mn q hq => ?_) (fun key hk => ?_) rfl) (fun p hp3 => ?_) (Nat.le_trans (qp_rn_cnt cl hp _ fun n n4 h => ?_) (by decide))
          · unfold qp_sw
            split
            · split <;> omega
            · exact ub n
          · have r := qp_rn_c cl hp ((I.1 n n4).resolve_left (by omega)).2 n2 hq
            obtain ⟨j, hj, hn⟩ := r
            exact I.2 j hj _ hn
          · obtain ⟨L, l1, l2, l3⟩ := ci key hk
            refine ⟨L, l1, l2, fun n => (l3 n).trans ⟨?_, ?_⟩⟩
            · rintro ⟨⟨a, b, c, d⟩, e⟩
              have := m01 n b
              have := e (by omega)
              exact ⟨a, b, (su n a b).mpr ⟨c, by omega⟩, d⟩
            · rintro ⟨a, b, c, d⟩
              have := (su n a b).mp c
              exact ⟨⟨a, b, this.1, d⟩, fun _ => by omega⟩
          · obtain ⟨t, up⟩ := hp p hp3
            refine ⟨t, ?_⟩
            by_cases c : 2 ≤ P p
            · refine (su _ c (qp_tr_lt t)).mpr ⟨up, ?_⟩
              refine I.2 0 (by omega) _ ?_
              show P p ∈ [P 0, P 1, P 2]
              rcases (by omega : p = 0 ∨ p = 1 ∨ p = 2) with e | e | e <;> subst e <;> simp
            · rcases (by omega : P p = 0 ∨ P p = 1) with e | e
              · rw [e]; exact s0
              · rw [e]; exact s1
          · by_cases c : n ≤ 1
            · exact Or.inl c
            · have h : qp_sw U M' 460 n = 1 := by simpa using h
              have := (su n (by omega) n4).mp h
              exact Or.inr ((I.1 n n4).resolve_left (by omega)).2
    · rintro n p m hp3 ⟨M, rfl, h1, h2⟩ nx
      obtain ⟨t, up⟩ := hp p hp3
      have p4 := qp_tr_lt t
      have e : qa_n P (nI p).toNatClampNeg = nI (P p) := qm_r p rfl
      refine br_f (nI_ge (b := 3) hp3 (by decide)) ⟨vp_in_nI hp3 (by decide), pk_in (P p) 460 p4 e (by decide), qm_t (P p) 1 (qm_i (nx _ ⟨_, rfl, fun n hn => ?_, fun p' hp' => ?_⟩)) e (by omega) rfl⟩
      · by_cases c : n = P p
        · rw [c, qa_us]
          refine Or.inr ⟨rfl, 0, by omega, ?_⟩
          show P p ∈ [P 0, P 1, P 2]
          rcases (by omega : p = 0 ∨ p = 1 ∨ p = 2) with e | e | e <;> subst e <;> simp
        · rw [qa_un M c]; exact h1 n hn
      · by_cases c : P p' = P p
        · rw [c, qa_us]
        · rw [qa_un M c]
          refine h2 p' ?_
          apply Classical.byContradiction
          intro z
          have : p' = p := by omega
          exact c (by rw [this])
  · rintro n i m hi ⟨M, rfl, hM⟩ nx
    refine br_f (nI_ge (b := 460) hi (by decide)) ⟨vp_in_nI hi (by decide), qm_t i 0 (qm_i (nx _ ⟨_, rfl, fun n hn => ?_⟩))⟩
    by_cases c : n = i
    · rw [c, qa_us]
    · rw [qa_un M c]; exact hM n (by omega)
end
end
section
/-! walks: fold -/
/-- n is the node of block j at height l of the points f -/
def qp_fn (C U f : Nat → Nat) (l j n : Nat) : Prop := U n = 1 ∧ qp_tr C l n ∧ ∀ r, r < 4 ^ l → qp_ds C l n r = f (j * 4 ^ l + r)
theorem qp_fn_g {C U C' U' f : Nat → Nat} {l j n : Nat} (cl : qp_cl C U) (g : qp_gr C U C' U') (h : qp_fn C U f l j n) : qp_fn C' U' f l j n := by
  obtain ⟨a, b, c⟩ := qp_gr_k cl g h.1 h.2.1
  exact ⟨a, b, fun r hr => (c r).trans (h.2.2 r hr)⟩
theorem qp_fn_s {C U C' U' f D : Nat → Nat} {l k r : Nat} (cl : qp_cl C U) (g : qp_gr C U C' U') (h : ∀ q, q < 4 → qp_fn C U f l (4 * k + q) (D q)) (nd : qp_nd C' U' D r) : qp_fn C' U' f (l + 1) k r := by
  have h' : ∀ q, q < 4 → qp_fn C' U' f l (4 * k + q) (D q) := fun q hq => qp_fn_g cl g (h q hq)
  have sp : ∀ x, x < 4 ^ (l + 1) → ∃ q y, q < 4 ∧ y < 4 ^ l ∧ x = q * 4 ^ l + y ∧ k * 4 ^ (l + 1) + x = (4 * k + q) * 4 ^ l + y := by
    intro x hx
    have p : 0 < 4 ^ l := Nat.pow_pos (by decide)
    have e := Nat.div_add_mod' x (4 ^ l)
    refine ⟨x / 4 ^ l, x % 4 ^ l, ?_, Nat.mod_lt _ p, e.symm, ?_⟩
    · rw [Nat.div_lt_iff_lt_mul p]
      rw [Nat.pow_succ] at hx
      omega
    · rw [Nat.add_mul, Nat.pow_succ, Nat.add_assoc, e, ← Nat.mul_assoc, Nat.mul_comm (k * 4 ^ l) 4, Nat.mul_assoc]
  obtain ⟨r4, ur, nd | nd⟩ := nd
  · refine ⟨ur, Or.inl nd.1, fun x hx => ?_⟩
    obtain ⟨q, y, hq, hy, e1, e2⟩ := sp x hx
    rw [qp_ds_le _ _ nd.1, e2, ← (h' q hq).2.2 y hy, nd.2 q hq, qp_ds_le _ _ nd.1]
  · refine ⟨ur, Or.inr ⟨r4, fun q hq => ?_⟩, fun x hx => ?_⟩
    · rw [nd.2 q hq]; exact (h' q hq).2.1
    · obtain ⟨q, y, hq, hy, e1, e2⟩ := sp x hx
      rw [e1, qp_ds_q (by omega) hq hy, nd.2 q hq, ← e1, e2]
      exact (h' q hq).2.2 y hy
abbrev qx_J5 : Type := Int32 → Int32 → Int32 → (Nat → Int32) → (Nat → Int32) → (Nat → Int32) → (Nat → Int32) → (Nat → Int32) → (Nat → Int32) → (Nat → Int32) → (Nat → Int32) → (Nat → Int32) → (Nat → Int32) → (Nat → Int32) → Prop
section
variable {us : Int32} {ch cn bk iu mk pc fr ot dr ct rt : Nat → Int32}
theorem qx_fo29 {post : SX → Prop} {J : qx_J5} {x1 x3 : Int32} {f C0 U0 : Nat → Nat} {l b s : Nat} (hb : b ≤ 64) (H : ∀ (u : Nat) (C N B U T : Nat → Nat) (fr dr : Nat → Int32), qp_St u C N B U T → qp_gr C0 U0 C U → u + s ≤ 460 → (∀ j, j < b → ∃ n, fr j = nI n ∧ qp_fn C U f (l + 1) j n) → J (nI b) (x3 + 1) (nI u) (qa_n C) (qa_n N) (qa_n B) (qa_n U) mk pc fr ot dr (qa_n T) rt) : ∀ (d k : Nat), k + d = b → ∀ (u : Nat) (C N B U T : Nat → Nat) (fr dr : Nat → Int32), qp_St u C N B U T → qp_gr C0 U0 C U → u + (b - k) + s ≤ 460 → (∀ j, j < k → ∃ n, fr j = nI n ∧ qp_fn C U f (l + 1) j n) → (∀ j, 4 * k ≤ j → j < 4 * b → ∃ n, fr j = nI n ∧ qp_fn C U f l j n) → wX_fold_29 post J x1 (nI b) x3 (d + 1) (nI k) (nI u) (qa_n C) (qa_n N) (qa_n B) (qa_n U) mk pc fr ot dr (qa_n T) rt := by
  intro d
  induction d with
  | zero =>
    intro k hk u C N B U T fr dr st g hu I1 I2
    have e : k = b := by omega
    subst e
    exact br_t (nI_le (by omega) (by omega)) (nm_e (H u C N B U T fr dr st g (by omega) I1))
  | succ d ih =>
    intro k hk u C N B U T fr dr st g hu I1 I2
    refine br_f (nI_ge (by omega) (by omega)) ?_
    have hD : ∃ D : Nat → Nat, ∀ q, q < 4 → fr (4 * k + q) = nI (D q) ∧ qp_fn C U f l (4 * k + q) (D q) := by
      obtain ⟨d0, a0⟩ := I2 (4 * k + 0) (by omega) (by omega)
      obtain ⟨d1, a1⟩ := I2 (4 * k + 1) (by omega) (by omega)
      obtain ⟨d2, a2⟩ := I2 (4 * k + 2) (by omega) (by omega)
      obtain ⟨d3, a3⟩ := I2 (4 * k + 3) (by omega) (by omega)
      refine ⟨fun q => if q = 0 then d0 else if q = 1 then d1 else if q = 2 then d2 else d3, fun q hq => ?_⟩
      match q, hq with
      | 0, _ => exact a0
      | 1, _ => exact a1
      | 2, _ => exact a2
      | 3, _ => exact a3
    obtain ⟨D, hD⟩ := hD
    refine pk_loop (fun n i e => wX_fold_38 post J (wX_fold_29 post J x1 (nI b) x3 (d + 1)) x1 (nI b) x3 (nI k) (nI u) n (nI i) (qa_n C) (qa_n N) (qa_n B) (qa_n U) mk pc fr ot e (qa_n T) rt) (fun i e => ∀ q, q < i → e q = nI (D q)) 4 0 dr (by omega) (fun q hq => absurd hq (by omega)) ?_ ?_
    · intro n e I
      refine br_t (by decide) ?_
      refine qx_intern st (by omega) (fun q hq => ⟨I q hq, qp_tr_lt (hD q hq).2.2.1, (hD q hq).2.1⟩) fun u' C' N' B' U' T' r st' hu' g' nd => ?_
      have cl : qp_cl C U := st.2.2.2.1
      refine ⟨vp_in_nI (by omega) (by decide), qm_u k (nI r) (qm_i (ih (k + 1) (by omega) u' C' N' B' U' T' _ _ st' (qp_gr_t g g') (by omega) (fun j hj => ?_) (fun j h1 h2 => ?_)))⟩
      · by_cases c : j = k
        · subst c
          exact ⟨r, pk_us, qp_fn_s cl g' (fun q hq => (hD q hq).2) nd⟩
        · obtain ⟨m, m1, m2⟩ := I1 j (by omega)
          exact ⟨m, (pk_un c).trans m1, qp_fn_g cl g' m2⟩
      · obtain ⟨m, m1, m2⟩ := I2 j (by omega) h2
        exact ⟨m, (pk_un (by omega)).trans m1, qp_fn_g cl g' m2⟩
    · intro n i e hi I nx
      refine br_f (nI_ge (b := 4) hi (by decide)) ⟨pk_in (4 * k + i) 256 (by omega) (qn_4 k i) (by decide), vp_in_nI hi (by decide), qm_u i (nI (D i)) (qm_i (nx _ fun q hq => ?_)) rfl (by omega) (qm_r (4 * k + i) (hD i hi).1 (qn_4 k i) (by omega))⟩
      by_cases c : q = i
      · rw [c, pk_us]
      · rw [pk_un c]; exact I q (by omega)
def qp_S : Nat → Nat
  | 0 => 85
  | 1 => 21
  | 2 => 5
  | 3 => 1
  | _ => 0
theorem qp_S_4 : ∀ l, l < 4 → 4 ^ (4 - l) = 4 * 4 ^ (3 - l) ∧ qp_S l = 4 ^ (3 - l) + qp_S (l + 1) ∧ 4 ^ (3 - l) ≤ 64 := by decide
theorem qx_fo17 {post : SX → Prop} {f C0 U0 : Nat → Nat} {p : Nat} (hp : p < 3) (K : ∀ (u : Nat) (C N B U T : Nat → Nat) (fr dr : Nat → Int32) (n : Nat), qp_St u C N B U T → qp_gr C0 U0 C U → qp_fn C U f 4 0 n → post (nI u, qa_n C, qa_n N, qa_n B, qa_n U, mk, upd pc p (nI n), fr, ot, dr, qa_n T, rt)) : ∀ (d l : Nat), l + d = 4 → ∀ (u : Nat) (C N B U T : Nat → Nat) (fr dr : Nat → Int32), qp_St u C N B U T → qp_gr C0 U0 C U → u + qp_S l ≤ 460 → (∀ j, j < 4 ^ (4 - l) → ∃ n, fr j = nI n ∧ qp_fn C U f l j n) → wX_fold_17 post (nI p) (d + 1) (nI (4 ^ (4 - l))) (nI l) (nI u) (qa_n C) (qa_n N) (qa_n B) (qa_n U) mk pc fr ot dr (qa_n T) rt := by
  intro d
  induction d with
  | zero =>
    intro l hl u C N B U T fr dr st g hu I
    have e : l = 4 := by omega
    subst e
    obtain ⟨n, n1, n2⟩ := I 0 (by decide)
    exact br_t (by decide) ⟨vp_in_nI hp (by decide), qm_u p (nI n) (K u C N B U T fr dr n st g n2) rfl (by omega) n1⟩
  | succ d ih =>
    intro l hl u C N B U T fr dr st g hu I
    obtain ⟨s1, s2, s3⟩ := qp_S_4 l (by omega)
    rw [s1] at I ⊢
    have sh : nI (4 * 4 ^ (3 - l)) >>> ((2 : Int32) &&& 31) = nI (4 ^ (3 - l)) := by
      have := pk_shrN (n := 4 * 4 ^ (3 - l)) (by omega) ((2 : Int32) &&& 31) 2 (by decide)
      rw [this]
      exact congrArg nI (by omega)
    refine br_f (nI_ge (b := 4) (by omega) (by decide)) (nm_r sh ⟨4 ^ (3 - l) + 1, qx_fo29 (f := f) (C0 := C0) (U0 := U0) (l := l) (s := qp_S (l + 1)) s3 (fun u C N B U T fr dr st g hu I => ?_) (4 ^ (3 - l)) 0 (by omega) u C N B U T fr dr st g (by omega) (fun j hj => absurd hj (by omega)) (fun j _ hj => I j hj)⟩)
    rw [nI_1]
    have := ih (l + 1) (by omega) u C N B U T fr dr st g hu (by rw [show 4 - (l + 1) = 3 - l by omega]; exact I)
    rw [show 4 - (l + 1) = 3 - l by omega] at this
    exact this
theorem qx_fold {post : SX → Prop} {C N B U T P f : Nat → Nat} {u p : Nat} (st : qp_St u C N B U T) (hP : qp_pic C U P) (hp : p < 3) (hf : ∀ k, k < 256 → fr k = nI (f k) ∧ f k ≤ 1) (K : ∀ (u' : Nat) (C' N' B' U' T' : Nat → Nat) (mk' fr' dr' : Nat → Int32) (n : Nat), qp_St u' C' N' B' U' T' → qp_pic C' U' (qa_u P p n) → (∀ p', p' < 3 → p' ≠ p → ∀ k, qp_ds C' 4 (P p') k = qp_ds C 4 (P p') k) → (∀ k, k < 256 → qp_ds C' 4 n k = f k) → post (nI u', qa_n C', qa_n N', qa_n B', qa_n U', mk', qa_n (qa_u P p n), fr', ot, dr', qa_n T', rt)) : wpX_fold post (nI u, qa_n C, qa_n N, qa_n B, qa_n U, mk, qa_n P, fr, ot, dr, qa_n T, rt) (nI p) := by
  refine And.intro (vp_in_nI hp (by decide)) (qm_t p 0 ?_)
  have hP0 : qp_pic C U (qa_u P p 0) := fun p' h => by
    by_cases c : p' = p
    · rw [c, qa_us]; exact ⟨qp_tr_le _ (by omega), st.1⟩
    · rw [qa_un P c]; exact hP p' h
  refine qx_room st hP0 fun u1 N1 B1 U1 mk1 st1 hP1 hu1 => ?_
  have f0 : ∀ j, j < 4 ^ (4 - 0) → ∃ n, fr j = nI n ∧ qp_fn C U1 f 0 j n := fun j hj => by
    obtain ⟨a, b⟩ := hf j hj
    refine ⟨f j, a, ?_, b, fun r hr => ?_⟩
    · rcases (by omega : f j = 0 ∨ f j = 1) with c | c
      · rw [c]; exact st1.1
      · rw [c]; exact st1.2.1
    · have : r = 0 := by
        rw [Nat.pow_zero] at hr
        omega
      subst this
      show f j = f (j * 4 ^ 0 + 0)
      rw [Nat.pow_zero, Nat.mul_one, Nat.add_zero]
  refine Exists.intro 5 (qx_fo17 (f := f) (C0 := C) (U0 := U1) hp (fun u C' N B U' T fr dr n st' g fn => ?_) 4 0 (by omega) u1 C N1 B1 U1 T fr dr st1 (qp_gr_r C U1) (by show u1 + 85 ≤ 460; omega) f0)
  rw [qa_upd, qa_uu]
  have cl : qp_cl C U1 := st1.2.2.2.1
  refine K u C' N B U' T mk1 fr dr n st' (fun p' h => ?_) (fun p' h c k => ?_) (fun k hk => ?_)
  · by_cases c : p' = p
    · rw [c, qa_us]; exact ⟨fn.2.1, fn.1⟩
    · obtain ⟨a, b⟩ := hP1 p' h
      rw [qa_un P c] at a b ⊢
      obtain ⟨x, y, -⟩ := qp_gr_k cl g b a
      exact ⟨y, x⟩
  · obtain ⟨a, b⟩ := hP1 p' h
    rw [qa_un P c] at a b
    exact (qp_gr_k cl g b a).2.2 k
  · have := fn.2.2 k hk
    rw [Nat.zero_mul, Nat.zero_add] at this
    exact this
end
end
section
/-! X: its states that show the pictures D; the methods that read the tree -/
def qx_R (D : Nat → Nat) (x : SX) : Prop := ∃ (u : Nat) (C N B U T P : Nat → Nat) (mk fr ot dr rt : Nat → Int32), x = (nI u, qa_n C, qa_n N, qa_n B, qa_n U, mk, qa_n P, fr, ot, dr, qa_n T, rt) ∧ qp_St u C N B U T ∧ qp_pic C U P ∧ ∀ p t, p < 3 → t < 256 → qp_ds C 4 (P p) (qp_bo t) = D (256 * p + t)
theorem qx_el {D : Nat → Nat} {Q : SX → Prop} (h : ∀ (u : Nat) (C N B U T P : Nat → Nat) (mk fr ot dr rt : Nat → Int32), qp_St u C N B U T → qp_pic C U P → (∀ p t, p < 3 → t < 256 → qp_ds C 4 (P p) (qp_bo t) = D (256 * p + t)) → Q (nI u, qa_n C, qa_n N, qa_n B, qa_n U, mk, qa_n P, fr, ot, dr, qa_n T, rt)) {x : SX} (R : qx_R D x) : Q x := by
  obtain ⟨u, C, N, B, U, T, P, mk, fr, ot, dr, rt, rfl, st, hp, hd⟩ := R
  exact h u C N B U T P mk fr ot dr rt st hp hd
theorem qx_in {D : Nat → Nat} {u : Nat} {C N B U T P : Nat → Nat} {mk fr ot dr rt : Nat → Int32} (st : qp_St u C N B U T) (hp : qp_pic C U P) (hd : ∀ p t, p < 3 → t < 256 → qp_ds C 4 (P p) (qp_bo t) = D (256 * p + t)) : qx_R D (nI u, qa_n C, qa_n N, qa_n B, qa_n U, mk, qa_n P, fr, ot, dr, qa_n T, rt) :=
  ⟨u, C, N, B, U, T, P, mk, fr, ot, dr, rt, rfl, st, hp, hd⟩
theorem qx_cg {D D' : Nat → Nat} (h : ∀ i, i < 768 → D' i = D i) {x : SX} (R : qx_R D x) : qx_R D' x :=
  qx_el (Q := fun x => qx_R D' x) (fun u C N B U T P mk fr ot dr rt st hp hd => qx_in st hp fun p t h3 ht => by rw [hd p t h3 ht, h _ (by omega)]) R
theorem qx_01 {D : Nat → Nat} {x : SX} (R : qx_R D x) : ∀ i, i < 768 → D i ≤ 1 :=
  qx_el (Q := fun _ => ∀ i, i < 768 → D i ≤ 1) (fun u C N B U T P mk fr ot dr rt st hp hd i hi => by
    have := hd (i / 256) (i % 256) (by omega) (by omega)
    rw [show 256 * (i / 256) + i % 256 = i by omega] at this
    rw [← this]
    exact qp_ds_01 _ _ _ (hp (i / 256) (by omega)).1) R
/-- picture p becomes g, the others stay -/
def qp_to (D D' : Nat → Nat) (p : Nat) (g : Nat → Nat) : Prop := ∀ p' t, p' < 3 → t < 256 → D' (256 * p' + t) = if p' = p then g t else D (256 * p' + t)
theorem qp_to_s {D D' g : Nat → Nat} {p : Nat} (h : qp_to D D' p g) (hp : p < 3) {t : Nat} (ht : t < 256) : D' (256 * p + t) = g t := by
  rw [h p t hp ht, if_pos rfl]
theorem qp_to_n {D D' g : Nat → Nat} {p p' : Nat} (h : qp_to D D' p g) (hp : p' < 3) (c : p' ≠ p) {t : Nat} (ht : t < 256) : D' (256 * p' + t) = D (256 * p' + t) := by
  rw [h p' t hp ht, if_neg c]
def qp_g (D : Nat → Nat) (p : Nat) : Nat → Nat := fun t => D (256 * p + t)
theorem qp_ar_g {C D : Nat → Nat} {n p : Nat} (h : ∀ t, t < 256 → qp_ds C 4 n (qp_bo t) = D (256 * p + t)) : qp_ar C 4 n = qp_sum (qp_g D p) 256 := by
  rw [qp_ar_sum, show (4 : Nat) ^ 4 = 256 from rfl, ← qp_sum_perm]
  exact qp_sum_congr _ fun t ht => h t ht
theorem qx_isP {post : Int32 → Prop} {p : Nat} (hp : p < 3) (h : post 1) : wpX_isPicture post (nI p) := br_f (nI_pos (by omega)) (br_f (nI_nlt (a := 2) (by omega) (by decide)) h)
theorem qx_isT {post : Int32 → Prop} {x y : Nat} (hx : x < 16) (hy : y < 16) (h : post 1) : wpX_isPoint post (nI x) (nI y) := br_f (nI_pos (by omega)) (br_f (nI_ge (b := 16) hx (by decide)) (br_f (nI_pos (by omega)) (br_f (nI_ge (b := 16) hy (by decide)) h)))
theorem qx_isR {post : Int32 → Prop} {lo hi : Nat} (hr : qv_rc lo hi) (h : post 1) : wpX_isRectangle post (nI lo) (nI hi) := by
  obtain ⟨a, b, c, d⟩ := hr
  exact br_f (nI_pos (by omega)) (br_f (nI_nlt (a := 255) (by omega) (by decide)) (br_f (nI_pos (by omega)) (br_f (nI_nlt (a := 255) (by omega) (by decide)) (br_f (by decide) (pk_lt (hi / 16) (lo / 16) (fun z => absurd z (by omega)) (fun _ => pk_lt (hi % 16) (lo % 16) (fun z => absurd z (by omega)) (fun _ => h) (qn_and15 (by omega)) (qn_and15 (by omega)) (by omega) (by omega)) (qn_shr4 (by omega)) (qn_shr4 (by omega)) (by omega) (by omega))))))
section
variable {us : Int32} {ch cn bk iu mk pc fr ot dr ct rt : Nat → Int32}
theorem qx_area' {post : Int32 → SX → Prop} {C : Nat → Nat} {n : Nat} {x : Int32} (hx : x = nI n) (t : qp_tr C 4 n) (K : ∀ rt' : Nat → Int32, post (nI (qp_ar C 4 n)) (us, qa_n C, cn, bk, iu, mk, pc, fr, ot, dr, ct, rt')) : wpX_areaOf post (us, qa_n C, cn, bk, iu, mk, pc, fr, ot, dr, ct, rt) x := by
  subst hx
  exact qx_area t K
theorem qx_col' {post : Int32 → Prop} {C : Nat → Nat} {n t : Nat} {x y : Int32} (hx : x = nI n) (hy : y = nI t) (ht : t < 256) (tr : qp_tr C 4 n) (K : post (nI (qp_ds C 4 n (qp_bo t)))) : wpX_colourAt post (us, qa_n C, cn, bk, iu, mk, pc, fr, ot, dr, ct, rt) x y := by
  subst hx hy
  exact qx_col ht tr K
theorem qx_hei' {post : Int32 → Prop} {C : Nat → Nat} {n k : Nat} {x y : Int32} (hx : x = nI n) (hy : y = nI k) (hk : k < 256) (tr : qp_tr C 4 n) (K : post (nI (qp_ht C 4 n k))) : wpX_heightAt post (us, qa_n C, cn, bk, iu, mk, pc, fr, ot, dr, ct, rt) x y := by
  subst hx hy
  exact qx_hei hk tr K
theorem qx_tb' {post : Int32 → Prop} {C U T : Nat → Nat} {n : Nat} {x : Int32} (hx : x = nI n) (cl : qp_cl C U) (tc : qp_tc C U T) (t : qp_tr C 4 n) (u : U n = 1) (K : post (nI (qp_lf C 4 n))) : wpX_tilesBelow post (us, ch, cn, bk, iu, mk, pc, fr, ot, dr, qa_n T, rt) x := by
  subst hx
  have n4 := qp_tr_lt t
  rw [← qp_T cl tc 4 n t u] at K
  unfold qp_tl at K
  refine pk_lt 1 n (fun h => ⟨vp_in_nI n4 (by decide), ?_⟩) (fun h => ?_) rfl rfl (by omega) (by omega)
  · rw [if_neg (by omega)] at K
    rw [nI_clamp (by omega)]
    exact K
  · rw [if_pos h] at K
    exact K
theorem qx_bo' {post : Int32 → Prop} {t : Nat} {x : Int32} (hx : x = nI t) (ht : t < 256) (h : post (nI (qp_bo t))) : wpX_blockOf post x := by
  subst hx
  exact qx_bo ht h
end
/-! reading methods -/
theorem qx_copy {D D' : Nat → Nat} {x : SX} (R : qx_R D x) {p q : Nat} (hp : p < 3) (hq : q < 3) (to : qp_to D D' p (qp_g D q)) {post : Int32 → SX → Prop} (K : ∀ x', qx_R D' x' → post 0 x') : wpX_copy post x (nI p) (nI q) := by
  refine qx_el (Q := fun x => wpX_copy post x (nI p) (nI q)) (fun u C N B U T P mk fr ot dr rt st hP hd => ?_) R
  unfold wpX_copy
  dsimp only
  refine qx_isP hp (br_f (by decide) (qx_isP hq (br_f (by decide) ⟨vp_in_nI hq (by decide), vp_in_nI hp (by decide), qm_t p (P q) (K _ (qx_in st (fun p' h => ?_) (fun p' t h ht => ?_))) rfl (by omega) (qm_r q rfl)⟩)))
  · by_cases c : p' = p
    · rw [c, qa_us]; exact hP q hq
    · rw [qa_un P c]; exact hP p' h
  · by_cases c : p' = p
    · rw [c, qa_us, hd q t hq ht, qp_to_s to hp ht]; rfl
    · rw [qa_un P c, hd p' t h ht, qp_to_n to h c ht]
theorem qx_zoom {D D' : Nat → Nat} {x : SX} (R : qx_R D x) {p q c : Nat} (hp : p < 3) (hq : q < 3) (hc : c < 4) (to : qp_to D D' p (fun t => D (256 * q + (16 * (8 * (c / 2) + t / 16 / 2) + (8 * (c % 2) + t % 16 / 2))))) {post : Int32 → SX → Prop} (K : ∀ x', qx_R D' x' → post (nI (qp_sum (qp_g D' p) 256)) x') : wpX_zoom post x (nI p) (nI q) (nI c) := by
  refine qx_el (Q := fun x => wpX_zoom post x (nI p) (nI q) (nI c)) (fun u C N B U T P mk fr ot dr rt st hP hd => ?_) R
  have zz : ∀ c, c < 4 → ∀ t, t < 256 → qp_bo (16 * (8 * (c / 2) + t / 16 / 2) + (8 * (c % 2) + t % 16 / 2)) = c * 4 ^ 3 + qp_bo t / 4 := by decide +kernel
  have z4 : ∀ t, t < 256 → (qp_bo t) / 4 < 4 ^ 3 := fun t ht => by have := qp_bo_lt t; show _ < 64; omega
  obtain ⟨tq, uq⟩ := hP q hq
  have q4 := qp_tr_lt tq
  /- the child seen one level higher -/
  have low : ∀ (h n k : Nat), qp_tr C h n → qp_ds C (h + 1) n k = qp_ds C h n (k / 4) := by
    intro h
    induction h with
    | zero => intro n k t; exact qp_ds_le _ _ t
    | succ h ih =>
      intro n k t
      by_cases hn : n ≤ 1
      · rw [qp_ds_le _ _ hn, qp_ds_le _ _ hn]
      · rw [qp_ds_s _ _ hn, qp_ds_s _ _ hn, ih _ _ (qp_tr_c t hn _ (Nat.mod_lt _ (by decide))), show k / 4 ^ (h + 1) = k / 4 / 4 ^ h by rw [Nat.div_div_eq_div_mul, Nat.pow_succ, Nat.mul_comm]]
  have fin : ∀ n, qp_tr C 4 n → U n = 1 → (∀ t, t < 256 → qp_ds C 4 n (qp_bo t) = D' (256 * p + t)) → ∀ y : Int32, y = nI n → ∀ pc', pc' = upd (qa_n P) (nI p).toNatClampNeg y → vp_in (nI p) 3 ∧ wpX_areaOf (fun r u => post r u) (nI u, qa_n C, qa_n N, qa_n B, qa_n U, mk, pc', fr, ot, dr, qa_n T, rt) (pc' (nI p).toNatClampNeg) := by
    intro n tn un hn y hy
    refine qm_t p n ⟨vp_in_nI hp (by decide), qx_area' (qm_r p (by rw [qa_at, qa_us])) tn fun rt' => ?_⟩ rfl (by omega) hy
    rw [qp_ar_g hn]
    refine K _ (qx_in st (fun p' h => ?_) (fun p' t h ht => ?_))
    · by_cases c : p' = p
      · rw [c, qa_us]; exact ⟨tn, un⟩
      · rw [qa_un P c]; exact hP p' h
    · by_cases c : p' = p
      · rw [c, qa_us]; exact hn t ht
      · rw [qa_un P c, hd p' t h ht, qp_to_n to h c ht]
  unfold wpX_zoom
  dsimp only
  refine qx_isP hp (br_f (by decide) (qx_isP hq (br_f (by decide) (br_f (nI_pos (by omega)) (br_t (nI_le (b := 3) (by omega) (by decide)) ⟨vp_in_nI hq (by decide), ?_⟩)))))
  rw [show qa_n P (nI q).toNatClampNeg = nI (P q) from qm_r q rfl]
  refine pk_lt 1 (P q) (fun h => ⟨pk_in (4 * P q + c) 1840 (by omega) (qn_4 (P q) c) (by decide), ?_⟩) (fun h => ?_) rfl rfl (by omega) (by omega)
  · have tc := qp_tr_c tq (by omega) c hc
    refine ⟨vp_in_nI hp (by decide), fin _ (qp_tr_up _ _ tc) ((st.2.2.2.1 _ (by omega) q4 uq c hc).2) (fun t ht => ?_) _ (qm_r (4 * P q + c) rfl (qn_4 (P q) c) (by omega))⟩
    rw [low 3 _ _ tc, qp_to_s to hp ht, ← hd q _ hq (by omega), zz c hc t ht, qp_ds_q (by omega) hc (z4 t ht)]
  · refine ⟨vp_in_nI hp (by decide), fin _ tq uq (fun t ht => ?_) _ rfl⟩
    rw [qp_to_s to hp ht, ← hd q _ hq (by omega), qp_ds_le _ _ h, qp_ds_le _ _ h]
theorem qx_at {D : Nat → Nat} {x : SX} (R : qx_R D x) {p i j : Nat} (hp : p < 3) (hi : i < 16) (hj : j < 16) {post : Int32 → Prop} (K : post (nI (D (256 * p + (16 * i + j))))) : wpX_at post x (nI p) (nI i) (nI j) := by
  refine qx_el (Q := fun x => wpX_at post x (nI p) (nI i) (nI j)) (fun u C N B U T P mk fr ot dr rt st hP hd => ?_) R
  unfold wpX_at
  dsimp only
  refine qx_isP hp (br_f (by decide) (qx_isT hi hj (br_f (by decide) ⟨vp_in_nI hp (by decide), qx_col' (qm_r p rfl) (qn_16 i j) (by omega) (hP p hp).1 ?_⟩)))
  rw [hd p _ hp (by omega)]
  exact K
theorem qx_ar {D : Nat → Nat} {x : SX} (R : qx_R D x) {p : Nat} (hp : p < 3) {post : Int32 → SX → Prop} (K : ∀ x', qx_R D x' → post (nI (qp_sum (qp_g D p) 256)) x') : wpX_area post x (nI p) := by
  refine qx_el (Q := fun x => wpX_area post x (nI p)) (fun u C N B U T P mk fr ot dr rt st hP hd => ?_) R
  unfold wpX_area
  dsimp only
  refine qx_isP hp (br_f (by decide) ⟨vp_in_nI hp (by decide), qx_area' (qm_r p rfl) (hP p hp).1 fun rt' => ?_⟩)
  rw [qp_ar_g fun t ht => hd p t hp ht]
  exact K _ (qx_in st hP hd)
theorem qx_tiles {D : Nat → Nat} {x : SX} (R : qx_R D x) {p : Nat} (hp : p < 3) {post : Int32 → Prop} (K : post (nI (qp_tal (qp_g D p) 0))) : wpX_tiles post x (nI p) := by
  refine qx_el (Q := fun x => wpX_tiles post x (nI p)) (fun u C N B U T P mk fr ot dr rt st hP hd => ?_) R
  obtain ⟨u0, u1, ub, cl, can, un, tc, cs, cu⟩ := st
  obtain ⟨t, up⟩ := hP p hp
  unfold wpX_tiles
  dsimp only
  refine qx_isP hp (br_f (by decide) ⟨vp_in_nI hp (by decide), qx_tb' (qm_r p rfl) cl tc t up ?_⟩)
  rw [qp_tal_0 cl can t up fun t ht => (hd p t hp ht).symm]
  exact K
theorem qx_tileAt {D : Nat → Nat} {x : SX} (R : qx_R D x) {p i j : Nat} (hp : p < 3) (hi : i < 16) (hj : j < 16) {post : Int32 → Prop} (K : post (nI (2 ^ qp_H (qp_g D p) (16 * i + j)))) : wpX_tileAt post x (nI p) (nI i) (nI j) := by
  refine qx_el (Q := fun x => wpX_tileAt post x (nI p) (nI i) (nI j)) (fun u C N B U T P mk fr ot dr rt st hP hd => ?_) R
  obtain ⟨u0, u1, ub, cl, can, un, tc, cs, cu⟩ := st
  obtain ⟨t, up⟩ := hP p hp
  unfold wpX_tileAt
  dsimp only
  refine qx_isP hp (br_f (by decide) (qx_isT hi hj (br_f (by decide) (qx_bo' (qn_16 i j) (by omega) ⟨vp_in_nI hp (by decide), qx_hei' (qm_r p rfl) rfl (qp_bo_lt _) t ?_⟩))))
  have sh : ∀ h, h < 5 → (1 : Int32) <<< (nI h &&& 31) = nI (2 ^ h) := by decide +kernel
  rw [sh _ (by have := qp_ht_le (C := C) 4 (P p) (qp_bo (16 * i + j)); omega), ← qp_H_ht cl can t up (g := qp_g D p) (fun t ht => (hd p t hp ht).symm) (by omega)]
  exact K
theorem qx_same {D : Nat → Nat} {x : SX} (R : qx_R D x) {p q : Nat} (hp : p < 3) (hq : q < 3) {post : Int32 → Prop} (K1 : (∀ t, t < 256 → D (256 * p + t) = D (256 * q + t)) → post 1) (K0 : (¬ ∀ t, t < 256 → D (256 * p + t) = D (256 * q + t)) → post 0) : wpX_same post x (nI p) (nI q) := by
  refine qx_el (Q := fun x => wpX_same post x (nI p) (nI q)) (fun u C N B U T P mk fr ot dr rt st hP hd => ?_) R
  obtain ⟨u0, u1, ub, cl, can, un, tc, cs, cu⟩ := st
  obtain ⟨tp, up⟩ := hP p hp
  obtain ⟨tq, uq⟩ := hP q hq
  have p4 := qp_tr_lt tp
  have q4 := qp_tr_lt tq
  unfold wpX_same
  dsimp only
  refine qx_isP hp (br_f (by decide) (qx_isP hq (br_f (by decide) ⟨vp_in_nI hp (by decide), vp_in_nI hq (by decide), pk_eq (P p) (P q) (fun e => K1 fun t ht => ?_) (fun e => K0 fun z => e ?_) (qm_r p rfl) (qm_r q rfl) (by omega) (by omega)⟩)))
  · rw [← hd p t hp ht, ← hd q t hq ht, e]
  · refine qp_eq cl can un 4 (P p) (P q) tp tq up uq fun r hr => ?_
    have a := hd p (qp_po r) hp (qp_po_lt r)
    have b := hd q (qp_po r) hq (qp_po_lt r)
    rw [qp_bp r hr] at a b
    rw [a, b]
    exact z _ (qp_po_lt r)
end
section
/-! X: the methods that fold: paint, join, turn, shift -/
def qp_fi (new old : Nat → Nat) (i : Nat) (f : Nat → Int32) : Prop := (∀ k, k < i → f k = nI (new k)) ∧ ∀ k, i ≤ k → k < 256 → f k = nI (old k)
theorem qp_fi_u {new old : Nat → Nat} {i : Nat} {f : Nat → Int32} (h : qp_fi new old i f) : qp_fi new old (i + 1) (upd f i (nI (new i))) := by
  refine ⟨fun k hk => ?_, fun k h1 h2 => ?_⟩
  · by_cases c : k = i
    · rw [c, pk_us]
    · rw [pk_un c]; exact h.1 k (by omega)
  · rw [pk_un (by omega)]; exact h.2 k (by omega) h2
theorem qp_fi_k {new old : Nat → Nat} {i : Nat} {f : Nat → Int32} (hi : i < 256) (e : new i = old i) (h : qp_fi new old i f) : qp_fi new old (i + 1) f := by
  refine ⟨fun k hk => ?_, fun k h1 h2 => h.2 k (by omega) h2⟩
  by_cases c : k = i
  · rw [c, e]; exact h.2 i (by omega) hi
  · exact h.1 k (by omega)
theorem qp_to_c {D D' g g' : Nat → Nat} {p : Nat} (h : qp_to D D' p g) (e : ∀ t, t < 256 → g t = g' t) : qp_to D D' p g' := fun p' t hp ht => by
  rw [h p' t hp ht, e t ht]
section
variable {us : Int32} {ch cn bk iu mk pc fr ot dr ct rt : Nat → Int32}
theorem qx_fo {Q : SX → Prop} {D D' : Nat → Nat} {u p : Nat} {C N B U T P f : Nat → Nat} (st : qp_St u C N B U T) (hP : qp_pic C U P) (hd : ∀ p t, p < 3 → t < 256 → qp_ds C 4 (P p) (qp_bo t) = D (256 * p + t)) (hp : p < 3) (hf : ∀ k, k < 256 → fr k = nI (f k) ∧ f k ≤ 1) (to : qp_to D D' p (fun t => f (qp_bo t))) (K : ∀ (u : Nat) (C N B U T P : Nat → Nat) (mk fr dr : Nat → Int32), qp_St u C N B U T → qp_pic C U P → (∀ p t, p < 3 → t < 256 → qp_ds C 4 (P p) (qp_bo t) = D' (256 * p + t)) → Q (nI u, qa_n C, qa_n N, qa_n B, qa_n U, mk, qa_n P, fr, ot, dr, qa_n T, rt)) : wpX_fold Q (nI u, qa_n C, qa_n N, qa_n B, qa_n U, mk, qa_n P, fr, ot, dr, qa_n T, rt) (nI p) := by
  refine qx_fold st hP hp hf fun u' C' N' B' U' T' mk' fr' dr' n st' hP' ho hn => K u' C' N' B' U' T' _ mk' fr' dr' st' hP' fun p' t h ht => ?_
  by_cases c : p' = p
  · rw [c, qa_us, hn _ (qp_bo_lt t), qp_to_s to hp ht]
  · rw [qa_un P c, ho p' h c, hd p' t h ht, qp_to_n to h c ht]
theorem qx_arK {post : Int32 → SX → Prop} {D : Nat → Nat} {u p : Nat} {C N B U T P : Nat → Nat} (st : qp_St u C N B U T) (hP : qp_pic C U P) (hd : ∀ p t, p < 3 → t < 256 → qp_ds C 4 (P p) (qp_bo t) = D (256 * p + t)) (hp : p < 3) (K : ∀ x', qx_R D x' → post (nI (qp_sum (qp_g D p) 256)) x') : wpX_areaOf (fun r u => post r u) (nI u, qa_n C, qa_n N, qa_n B, qa_n U, mk, qa_n P, fr, ot, dr, qa_n T, rt) (qa_n P (nI p).toNatClampNeg) := by
  refine qx_area' (qm_r p rfl) (hP p hp).1 fun rt' => ?_
  rw [qp_ar_g fun t ht => hd p t hp ht]
  exact K _ (qx_in st hP hd)
/-- picture p becomes the node n -/
theorem qx_sp {Q : SX → Prop} {D D' : Nat → Nat} {u p n : Nat} {C N B U T P : Nat → Nat} (st : qp_St u C N B U T) (hP : qp_pic C U P) (hd : ∀ p t, p < 3 → t < 256 → qp_ds C 4 (P p) (qp_bo t) = D (256 * p + t)) (hp : p < 3) (tn : qp_tr C 4 n) (un : U n = 1) (to : qp_to D D' p (fun t => qp_ds C 4 n (qp_bo t))) (K : ∀ (P : Nat → Nat), qp_pic C U P → (∀ p t, p < 3 → t < 256 → qp_ds C 4 (P p) (qp_bo t) = D' (256 * p + t)) → Q (nI u, qa_n C, qa_n N, qa_n B, qa_n U, mk, qa_n P, fr, ot, dr, qa_n T, rt)) {x y : Int32} (hx : x = nI p) (hy : y = nI n) : ∀ pc', pc' = upd (qa_n P) x.toNatClampNeg y → Q (nI u, qa_n C, qa_n N, qa_n B, qa_n U, mk, pc', fr, ot, dr, qa_n T, rt) := by
  refine qm_t p n (K _ (fun p' h => ?_) (fun p' t h ht => ?_)) hx (by omega) hy
  · by_cases c : p' = p
    · rw [c, qa_us]; exact ⟨tn, un⟩
    · rw [qa_un P c]; exact hP p' h
  · by_cases c : p' = p
    · rw [c, qa_us, qp_to_s to hp ht]
    · rw [qa_un P c, hd p' t h ht, qp_to_n to h c ht]
end
theorem qx_paint {D D' : Nat → Nat} {x : SX} (R : qx_R D x) {p lo up m : Nat} (hp : p < 3) (hr : qv_rc lo up) (hm : m ≤ 2) (to : qp_to D D' p (fun t => if qp_in lo up t = 1 then (if m = 2 then 1 - D (256 * p + t) else m) else D (256 * p + t))) {post : Int32 → SX → Prop} (K : ∀ x', qx_R D' x' → post (nI (qp_sum (qp_g D' p) 256)) x') : wpX_paint post x (nI p) (nI lo) (nI up) (nI m) := by
  refine qx_el (Q := fun x => wpX_paint post x (nI p) (nI lo) (nI up) (nI m)) (fun u C N B U T P mk fr ot dr rt st hP hd => ?_) R
  obtain ⟨tp, utp⟩ := hP p hp
  unfold wpX_paint
  dsimp only
  refine qx_isP hp (br_f (by decide) (qx_isR hr (br_f (by decide) (br_f (nI_pos (by omega)) (br_t (nI_le (b := 2) hm (by decide)) ?_)))))
  refine qx_unfold hp tp fun fr1 hf1 => ?_
  have d01 : ∀ k, qp_ds C 4 (P p) k ≤ 1 := fun k => qp_ds_01 _ _ _ tp
  refine pk_loop (fun n i f => wX_paint_42 post (nI p) (nI lo) (nI up) (nI m) (nI u) n (nI i) (qa_n C) (qa_n N) (qa_n B) (qa_n U) mk (qa_n P) f ot dr (qa_n T) rt) (qp_fi (fun k => if qp_in lo up (qp_po k) = 1 then (if m = 2 then 1 - qp_ds C 4 (P p) k else m) else qp_ds C 4 (P p) k) (qp_ds C 4 (P p))) 256 0 fr1 (by omega) ⟨fun k hk => absurd hk (by omega), fun k _ hk => hf1 k hk⟩ ?_ ?_
  · intro n f I
    refine br_t (by decide) (qx_fo st hP hd hp (f := fun k => if qp_in lo up (qp_po k) = 1 then (if m = 2 then 1 - qp_ds C 4 (P p) k else m) else qp_ds C 4 (P p) k) (fun k hk => ⟨I.1 k hk, ?_⟩) (qp_to_c to fun t ht => ?_) fun u C N B U T P mk fr dr st hP hd => ⟨vp_in_nI hp (by decide), qx_arK st hP hd hp K⟩)
    · have := d01 k
      try dsimp only
      split
      · split <;> omega
      · omega
    · try dsimp only
      rw [qp_pb t ht, hd p t hp ht]
  · intro n i f hi I nx
    refine br_f (nI_ge (b := 256) hi (by decide)) (qx_po hi (qx_inR hr.1 hr.2.1 (qp_po_lt i) ?_))
    have v := d01 i
    have i01 : qp_in lo up (qp_po i) ≤ 1 := by unfold qp_in; split <;> omega
    refine pk_eq (qp_in lo up (qp_po i)) 0 (fun e => qm_i (nx _ (qp_fi_k hi ?_ I))) (fun e => ?_) rfl rfl (by omega) (by omega)
    · try dsimp only
      rw [e]; rfl
    · have e1 : qp_in lo up (qp_po i) = 1 := Nat.le_antisymm i01 (by omega)
      refine pk_eq m 2 (fun e2 => ⟨vp_in_nI hi (by decide), vp_in_nI hi (by decide), qm_u i _ (qm_i (nx _ (qp_fi_u I))) rfl (by omega) ?_⟩) (fun e2 => ⟨vp_in_nI hi (by decide), qm_u i _ (qm_i (nx _ (qp_fi_u I))) rfl (by omega) ?_⟩) rfl rfl (by omega) (by omega)
      · try dsimp only
        rw [if_pos e1, if_pos e2, nI_clamp (by omega), I.2 i (by omega) hi]
        exact pk_sub (a := 1) v
      · try dsimp only
        rw [if_pos e1, if_neg e2]
/-! join -/
def qp_jn (k a b : Nat) : Nat := if k = 0 then (if a = 1 ∧ b = 1 then 1 else 0) else if k = 1 then (if a = 1 ∨ b = 1 then 1 else 0) else if k = 2 then (if a = b then 0 else 1) else (if a = 1 ∧ b = 0 then 1 else 0)
theorem qp_jn_1 : ∀ k, k < 4 → ∀ a, a < 2 → ∀ b, b < 2 → qp_jn k a b ≤ 1 := by decide
theorem qp_jn_s : ∀ a, a < 2 → qp_jn 0 a a = a ∧ qp_jn 1 a a = a ∧ qp_jn 2 a a = 0 ∧ qp_jn 3 a a = 0 := by decide
theorem qp_jn_e : ∀ a, a < 2 → qp_jn 0 a 0 = 0 ∧ qp_jn 0 a 1 = a ∧ qp_jn 1 a 0 = a ∧ qp_jn 1 a 1 = 1 ∧ qp_jn 2 a 0 = a ∧ qp_jn 2 a 1 = 1 - a ∧ qp_jn 3 a 0 = a ∧ qp_jn 3 a 1 = 0 := by decide
theorem qp_jn_l : ∀ b, b < 2 → qp_jn 0 0 b = 0 ∧ qp_jn 0 1 b = b ∧ qp_jn 1 0 b = b ∧ qp_jn 1 1 b = 1 := by decide
theorem qn_jn : ∀ a, a < 2 → ∀ b, b < 2 → nI a &&& nI b = nI (qp_jn 0 a b) ∧ nI a ||| nI b = nI (qp_jn 1 a b) ∧ nI a ^^^ nI b = nI (qp_jn 2 a b) ∧ nI a &&& (1 - nI b) = nI (qp_jn 3 a b) := by decide +kernel
section
variable {us : Int32} {ch cn bk iu mk pc fr ot dr ct rt : Nat → Int32}
theorem qx_jE {Q : SX → Prop} {D D' : Nat → Nat} {u p k b : Nat} {C N B U T P : Nat → Nat} (st : qp_St u C N B U T) (hP : qp_pic C U P) (hd : ∀ p t, p < 3 → t < 256 → qp_ds C 4 (P p) (qp_bo t) = D (256 * p + t)) (hp : p < 3) (hk : k < 4) (hb : b ≤ 1) (to : qp_to D D' p (fun t => qp_jn k (D (256 * p + t)) b)) (K : ∀ (u : Nat) (C N B U T P : Nat → Nat) (mk fr dr : Nat → Int32), qp_St u C N B U T → qp_pic C U P → (∀ p t, p < 3 → t < 256 → qp_ds C 4 (P p) (qp_bo t) = D' (256 * p + t)) → Q (nI u, qa_n C, qa_n N, qa_n B, qa_n U, mk, qa_n P, fr, ot, dr, qa_n T, rt)) : wpX_joinEven Q (nI u, qa_n C, qa_n N, qa_n B, qa_n U, mk, qa_n P, fr, ot, dr, qa_n T, rt) (nI k) (nI p) (nI b) := by
  obtain ⟨tp, utp⟩ := hP p hp
  have d01 : ∀ k, qp_ds C 4 (P p) k < 2 := fun k => Nat.lt_succ_of_le (qp_ds_01 _ _ _ tp)
  have D01 : ∀ t, t < 256 → D (256 * p + t) < 2 := fun t ht => by rw [← hd p t hp ht]; exact d01 _
  have vi := vp_in_nI hp (N := 3) (by decide)
  have keep : (∀ a, a < 2 → qp_jn k a b = a) → ∀ pc', pc' = upd (qa_n P) (nI p).toNatClampNeg (qa_n P (nI p).toNatClampNeg) → Q (nI u, qa_n C, qa_n N, qa_n B, qa_n U, mk, pc', fr, ot, dr, qa_n T, rt) := fun e =>
    qx_sp st hP hd hp tp utp (qp_to_c to fun t ht => by rw [e _ (D01 t ht), hd p t hp ht]) (fun P hP hd => K u C N B U T P mk fr dr st hP hd) rfl (qm_r p rfl)
  have put : ∀ n, n ≤ 1 → (∀ a, a < 2 → qp_jn k a b = n) → ∀ pc', pc' = upd (qa_n P) (nI p).toNatClampNeg (nI n) → Q (nI u, qa_n C, qa_n N, qa_n B, qa_n U, mk, pc', fr, ot, dr, qa_n T, rt) := fun n hn e =>
    qx_sp st hP hd hp (qp_tr_le 4 hn) (by rcases (by omega : n = 0 ∨ n = 1) with c | c <;> rw [c]; exact st.1; exact st.2.1) (qp_to_c to fun t ht => by rw [e _ (D01 t ht), qp_ds_le _ _ hn]) (fun P hP hd => K u C N B U T P mk fr dr st hP hd) rfl rfl
  rcases (by omega : b = 0 ∨ b = 1) with rfl | rfl
  · match k, hk with
    | 0, _ => exact br_t rfl (br_f (by decide) ⟨vi, put 0 (by omega) fun a ha => (qp_jn_e a ha).1⟩)
    | 1, _ => exact br_f (by decide) (br_t rfl (br_f (by decide) ⟨vi, vi, keep fun a ha => (qp_jn_e a ha).2.2.1⟩))
    | 2, _ => exact br_f (by decide) (br_f (by decide) (br_f (by decide) (br_f (by decide) (K u C N B U T P mk fr dr st hP fun p' t h ht => by
        rw [hd p' t h ht, to p' t h ht]
        by_cases c : p' = p
        · rw [if_pos c, c]
          exact (qp_jn_e _ (D01 t ht)).2.2.2.2.1.symm
        · rw [if_neg c]))))
    | 3, _ => exact br_f (by decide) (br_f (by decide) (br_t rfl (br_f (by decide) ⟨vi, vi, keep fun a ha => (qp_jn_e a ha).2.2.2.2.2.2.1⟩)))
  · match k, hk with
    | 0, _ => exact br_t rfl (br_t rfl ⟨vi, vi, keep fun a ha => (qp_jn_e a ha).2.1⟩)
    | 1, _ => exact br_f (by decide) (br_t rfl (br_t rfl ⟨vi, put 1 (by omega) fun a ha => (qp_jn_e a ha).2.2.2.1⟩))
    | 3, _ => exact br_f (by decide) (br_f (by decide) (br_t rfl (br_t rfl ⟨vi, put 0 (by omega) fun a ha => (qp_jn_e a ha).2.2.2.2.2.2.2⟩)))
    | 2, _ =>
      refine br_f (by decide) (br_f (by decide) (br_f (by decide) (br_t rfl (qx_unfold hp tp fun fr1 hf1 => ?_))))
      refine pk_loop (fun n i f => wX_joinEven_99 Q (nI p) (nI u) n (nI i) (qa_n C) (qa_n N) (qa_n B) (qa_n U) mk (qa_n P) f ot dr (qa_n T) rt) (qp_fi (fun k => 1 - qp_ds C 4 (P p) k) (qp_ds C 4 (P p))) 256 0 fr1 (by omega) ⟨fun k hk => absurd hk (by omega), fun k _ hk => hf1 k hk⟩ ?_ ?_
      · intro n f I
        refine br_t (by decide) (qx_fo st hP hd hp (f := fun k => 1 - qp_ds C 4 (P p) k) (fun k hk => ⟨I.1 k hk, Nat.sub_le _ _⟩) (qp_to_c to fun t ht => ?_) fun u C N B U T P mk fr dr st hP hd => K u C N B U T P mk fr dr st hP hd)
        rw [(qp_jn_e _ (D01 t ht)).2.2.2.2.2.1, hd p t hp ht]
      · intro n i f hi I nx
        refine br_f (nI_ge (b := 256) hi (by decide)) ⟨vp_in_nI hi (by decide), vp_in_nI hi (by decide), qm_u i _ (qm_i (nx _ (qp_fi_u I))) rfl (by omega) ?_⟩
        rw [nI_clamp (by omega), I.2 i (by omega) hi]
        exact pk_sub (a := 1) (by have := d01 i; omega)
theorem qx_jP {Q : SX → Prop} {D D' : Nat → Nat} {u p q k : Nat} {C N B U T P : Nat → Nat} (st : qp_St u C N B U T) (hP : qp_pic C U P) (hd : ∀ p t, p < 3 → t < 256 → qp_ds C 4 (P p) (qp_bo t) = D (256 * p + t)) (hp : p < 3) (hq : q < 3) (hk : k < 4) (to : qp_to D D' p (fun t => qp_jn k (D (256 * p + t)) (D (256 * q + t)))) (K : ∀ (u : Nat) (C N B U T P : Nat → Nat) (mk fr ot dr : Nat → Int32), qp_St u C N B U T → qp_pic C U P → (∀ p t, p < 3 → t < 256 → qp_ds C 4 (P p) (qp_bo t) = D' (256 * p + t)) → Q (nI u, qa_n C, qa_n N, qa_n B, qa_n U, mk, qa_n P, fr, ot, dr, qa_n T, rt)) : wpX_joinPoints Q (nI u, qa_n C, qa_n N, qa_n B, qa_n U, mk, qa_n P, fr, ot, dr, qa_n T, rt) (nI k) (nI p) (nI q) := by
  obtain ⟨tp, utp⟩ := hP p hp
  obtain ⟨tq, utq⟩ := hP q hq
  have d01 : ∀ k, qp_ds C 4 (P p) k < 2 := fun k => Nat.lt_succ_of_le (qp_ds_01 _ _ _ tp)
  have e01 : ∀ k, qp_ds C 4 (P q) k < 2 := fun k => Nat.lt_succ_of_le (qp_ds_01 _ _ _ tq)
  unfold wpX_joinPoints
  dsimp only
  refine qx_unfold hq tq fun fr1 hf1 => ?_
  refine qx_keep fun ot1 ho1 => ?_
  refine qx_unfold hp tp fun fr2 hf2 => ?_
  refine pk_loop (fun n i f => wX_joinPoints_17 Q (nI k) (nI p) (nI u) n (nI i) (qa_n C) (qa_n N) (qa_n B) (qa_n U) mk (qa_n P) f ot1 dr (qa_n T) rt) (qp_fi (fun j => qp_jn k (qp_ds C 4 (P p) j) (qp_ds C 4 (P q) j)) (qp_ds C 4 (P p))) 256 0 fr2 (by omega) ⟨fun k hk => absurd hk (by omega), fun k _ hk => hf2 k hk⟩ ?_ ?_
  · intro n f I
    refine br_t (by decide) (qx_fo st hP hd hp (f := fun j => qp_jn k (qp_ds C 4 (P p) j) (qp_ds C 4 (P q) j)) (fun j hj => ⟨I.1 j hj, qp_jn_1 k hk _ (d01 j) _ (e01 j)⟩) (qp_to_c to fun t ht => ?_) fun u C N B U T P mk fr dr st hP hd => K u C N B U T P mk fr ot1 dr st hP hd)
    rw [hd p t hp ht, hd q t hq ht]
  · intro n i f hi I nx
    have v := d01 i
    have w := e01 i
    obtain ⟨j0, j1, j2, j3⟩ := qn_jn _ v _ w
    refine br_f (nI_ge (b := 256) hi (by decide)) ⟨vp_in_nI hi (by decide), nm_r (qm_r i (I.2 i (by omega) hi)) ⟨vp_in_nI hi (by decide), nm_r (qm_r i ((ho1 i hi).trans (hf1 i hi))) ?_⟩⟩
    have nx := nx _ (qp_fi_u I)
    match k, hk with
    | 0, _ => exact br_t rfl ⟨vp_in_nI hi (by decide), qm_u i _ (qm_i nx) rfl (by omega) j0⟩
    | 1, _ => exact br_f (by decide) (br_t rfl ⟨vp_in_nI hi (by decide), qm_u i _ (qm_i nx) rfl (by omega) j1⟩)
    | 2, _ => exact br_f (by decide) (br_f (by decide) (br_t rfl ⟨vp_in_nI hi (by decide), qm_u i _ (qm_i nx) rfl (by omega) j2⟩))
    | 3, _ => exact br_f (by decide) (br_f (by decide) (br_f (by decide) ⟨vp_in_nI hi (by decide), qm_u i _ (qm_i nx) rfl (by omega) j3⟩))
end
theorem qx_join {D D' : Nat → Nat} {x : SX} (R : qx_R D x) {p q k : Nat} (hp : p < 3) (hq : q < 3) (hk : k < 4) (to : qp_to D D' p (fun t => qp_jn k (D (256 * p + t)) (D (256 * q + t)))) {post : Int32 → SX → Prop} (K : ∀ x', qx_R D' x' → post (nI (qp_sum (qp_g D' p) 256)) x') : wpX_join post x (nI k) (nI p) (nI q) := by
  refine qx_el (Q := fun x => wpX_join post x (nI k) (nI p) (nI q)) (fun u C N B U T P mk fr ot dr rt st hP hd => ?_) R
  obtain ⟨tp, utp⟩ := hP p hp
  obtain ⟨tq, utq⟩ := hP q hq
  have p4 := qp_tr_lt tp
  have q4 := qp_tr_lt tq
  have D01 : ∀ p t, p < 3 → t < 256 → D (256 * p + t) < 2 := fun p t hp ht => by rw [← hd p t hp ht]; exact Nat.lt_succ_of_le (qp_ds_01 _ _ _ (hP p hp).1)
  have vi := vp_in_nI hp (N := 3) (by decide)
  have vq := vp_in_nI hq (N := 3) (by decide)
  unfold wpX_join
  dsimp only
  refine br_f (nI_pos (by omega)) (br_t (nI_le (b := 3) (by omega) (by decide)) (qx_isP hp (br_f (by decide) (qx_isP hq (br_f (by decide) ⟨vi, vq, ?_⟩)))))
  refine pk_eq (P p) (P q) (fun e => ?_) (fun e => ⟨vi, nm_r (e' := nI (P p)) (qm_r p rfl) ⟨vq, nm_r (e' := nI (P q)) (qm_r q rfl) ?_⟩⟩) (qm_r p rfl) (qm_r q rfl) (by omega) (by omega)
  · have Deq : ∀ t, t < 256 → D (256 * q + t) = D (256 * p + t) := fun t ht => by rw [← hd p t hp ht, ← hd q t hq ht, e]
    refine pk_lt k 2 (fun h => ?_) (fun h => ⟨vi, qx_sp (n := 0) (Q := fun x => match x with | (us, ch, cn, bk, iu, mk, pc, fr, ot, dr, ct, rt) => wX_join_55 post (nI p) us ch cn bk iu mk pc fr ot dr ct rt) st hP hd hp (qp_tr_le 4 (by omega)) st.1 (qp_to_c to fun t ht => ?_) (fun P hP hd => ⟨vi, qx_arK st hP hd hp K⟩) rfl rfl⟩) rfl rfl (by omega) (by omega)
    · refine And.intro vi (qx_arK st hP (fun p' t h ht => ?_) hp K)
      rw [hd p' t h ht, to p' t h ht]
      by_cases c : p' = p
      · rw [if_pos c, c]
        dsimp only
        rw [Deq t ht]
        rcases (by omega : k = 0 ∨ k = 1) with z | z
        · rw [z, (qp_jn_s _ (D01 p t hp ht)).1]
        · rw [z, (qp_jn_s _ (D01 p t hp ht)).2.1]
      · rw [if_neg c]
    · rw [Deq t ht, qp_ds_le _ _ (by omega)]
      rcases (by omega : k = 2 ∨ k = 3) with z | z
      · rw [z, (qp_jn_s _ (D01 p t hp ht)).2.2.1]
      · rw [z, (qp_jn_s _ (D01 p t hp ht)).2.2.2]
  · have pts : wX_join_181 post (nI k) (nI p) (nI q) (nI u) (qa_n C) (qa_n N) (qa_n B) (qa_n U) mk (qa_n P) fr ot dr (qa_n T) rt :=
      qx_jP st hP hd hp hq hk to fun u C N B U T P mk fr ot dr st hP hd => ⟨vi, qx_arK st hP hd hp K⟩
    have tk : ∀ n, qp_tr C 4 n → U n = 1 → (∀ t, t < 256 → qp_jn k (D (256 * p + t)) (D (256 * q + t)) = qp_ds C 4 n (qp_bo t)) → wX_join_169 post (nI p) (nI n) (nI p) (nI u) (qa_n C) (qa_n N) (qa_n B) (qa_n U) mk (qa_n P) fr ot dr (qa_n T) rt := fun n tn un hn =>
      And.intro vi (qx_sp (Q := fun x => match x with | (us, ch, cn, bk, iu, mk, pc, fr, ot, dr, ct, rt) => vp_in (nI p) 3 ∧ wpX_areaOf (fun r u => post r u) (us, ch, cn, bk, iu, mk, pc, fr, ot, dr, ct, rt) (pc (nI p).toNatClampNeg)) st hP hd hp tn un (qp_to_c to hn) (fun P hP hd => ⟨vi, qx_arK st hP hd hp K⟩) rfl rfl)
    refine pk_lt 1 (P q) (fun h => pk_lt 1 (P p) (fun h2 => pts) (fun h2 => ?_) rfl rfl (by omega) (by omega)) (fun h => ?_) rfl rfl (by omega) (by omega)
    · have l01 : ∀ t, t < 256 → D (256 * p + t) = P p := fun t ht => by rw [← hd p t hp ht, qp_ds_le _ _ h2]
      match k, hk with
      | 0, _ =>
        refine br_t rfl (br_t rfl ?_)
        rcases (by omega : P p = 0 ∨ P p = 1) with c | c
        · rw [c]
          exact br_f (by decide) (br_f (by decide) (br_t rfl (tk 0 (qp_tr_le 4 (by omega)) st.1 fun t ht => by rw [l01 t ht, c, (qp_jn_l _ (D01 q t hq ht)).1, qp_ds_le _ _ (by omega)])))
        · rw [c]
          exact br_t rfl (br_t rfl (br_f (by decide) (tk (P q) tq utq fun t ht => by rw [l01 t ht, c, (qp_jn_l _ (D01 q t hq ht)).2.1, hd q t hq ht])))
      | 1, _ =>
        refine br_f (by decide) (br_t rfl (br_f (by decide) ?_))
        rcases (by omega : P p = 0 ∨ P p = 1) with c | c
        · rw [c]
          exact br_f (by decide) (br_t rfl (br_f (by decide) (tk (P q) tq utq fun t ht => by rw [l01 t ht, c, (qp_jn_l _ (D01 q t hq ht)).2.2.1, hd q t hq ht])))
        · rw [c]
          exact br_t rfl (br_f (by decide) (br_t rfl (tk 1 (qp_tr_le 4 (by omega)) st.2.1 fun t ht => by rw [l01 t ht, c, (qp_jn_l _ (D01 q t hq ht)).2.2.2, qp_ds_le _ _ (by omega)])))
      | 2, _ => exact br_f (by decide) (br_f (by decide) pts)
      | 3, _ => exact br_f (by decide) (br_f (by decide) pts)
    · exact qx_jE st hP hd hp hk h (qp_to_c to fun t ht => by rw [← hd q t hq ht, qp_ds_le _ _ h]) fun u C N B U T P mk fr dr st hP hd => ⟨vi, qx_arK st hP hd hp K⟩
end
section
/-! X: turn and shift -/
def qp_mv (k t : Nat) : Nat := if k = 0 then 16 * (t % 16) + 15 - t / 16 else if k = 1 then 16 * (15 - t / 16) + t % 16 else 16 * (t % 16) + t / 16
def qp_iv (k t : Nat) : Nat := if k = 0 then 16 * (15 - t % 16) + t / 16 else if k = 1 then 16 * (15 - t / 16) + t % 16 else 16 * (t % 16) + t / 16
theorem qp_mv_f : ∀ k, k < 3 → ∀ t, t < 256 → qp_mv k t < 256 ∧ qp_iv k t < 256 ∧ qp_iv k (qp_mv k t) = t ∧ qp_mv k (qp_iv k t) = t := by decide +kernel
theorem qx_mv {post : Int32 → Prop} {k t : Nat} (hk : k < 3) (ht : t < 256) (h : post (nI (qp_mv k t))) : wpX_moved post (nI k) (nI t >>> ((4 : Int32) &&& 31)) (nI t &&& 15) := by
  rw [qn_shr4 (by omega), qn_and15 (by omega)]
  have t0 : ∀ t, t < 256 → 16 * nI (t % 16) + 15 - nI (t / 16) = nI (qp_mv 0 t) := by decide +kernel
  have t1 : ∀ t, t < 256 → 16 * (15 - nI (t / 16)) + nI (t % 16) = nI (qp_mv 1 t) := by decide +kernel
  have t2 : ∀ t, t < 256 → 16 * nI (t % 16) + nI (t / 16) = nI (qp_mv 2 t) := by decide +kernel
  match k, hk with
  | 0, _ => rw [← t0 t ht] at h; exact br_t rfl h
  | 1, _ => rw [← t1 t ht] at h; exact br_f (by decide) (br_t rfl h)
  | 2, _ => rw [← t2 t ht] at h; exact br_f (by decide) (br_f (by decide) h)
theorem qx_turn {D D' : Nat → Nat} {x : SX} (R : qx_R D x) {p k : Nat} (hp : p < 3) (hk : k < 3) (to : qp_to D D' p (fun t => D (256 * p + qp_iv k t))) {post : Int32 → SX → Prop} (K : ∀ x', qx_R D' x' → post (nI (qp_tal (qp_g D' p) 0)) x') : wpX_turn post x (nI k) (nI p) := by
  refine qx_el (Q := fun x => wpX_turn post x (nI k) (nI p)) (fun u C N B U T P mk fr ot dr rt st hP hd => ?_) R
  obtain ⟨tp, utp⟩ := hP p hp
  unfold wpX_turn
  dsimp only
  refine br_f (nI_pos (by omega)) (br_t (nI_le (b := 2) (by omega) (by decide)) (qx_isP hp (br_f (by decide) ?_)))
  refine qx_unfold hp tp fun fr1 hf1 => qx_keep fun ot1 ho1 => ?_
  refine pk_loop (fun n i f => wX_turn_32 post (nI k) (nI p) (nI u) n (nI i) (qa_n C) (qa_n N) (qa_n B) (qa_n U) mk (qa_n P) f ot1 dr (qa_n T) rt) (fun i f => ∀ j, j < 256 → qp_bo (qp_iv k (qp_po j)) < i → f j = nI (qp_ds C 4 (P p) (qp_bo (qp_iv k (qp_po j))))) 256 0 fr1 (by omega) (fun j _ hj => absurd hj (by omega)) ?_ ?_
  · intro n f I
    refine br_t (by decide) (qx_fo st hP hd hp (f := fun j => qp_ds C 4 (P p) (qp_bo (qp_iv k (qp_po j)))) (fun j hj => ⟨I j hj (qp_bo_lt _), qp_ds_01 _ _ _ tp⟩) (qp_to_c to fun t ht => ?_) fun u C N B U T P mk fr dr st hP hd => ⟨vp_in_nI hp (by decide), ?_⟩)
    · rw [qp_pb t ht, hd p _ hp (qp_mv_f k hk t ht).2.1]
    · have st' := st
      obtain ⟨u0, u1, ub, cl, can, un, tc, cs, cu⟩ := st'
      obtain ⟨t, up⟩ := hP p hp
      refine qx_tb' (qm_r p rfl) cl tc t up ?_
      rw [qp_tal_0 cl can t up (g := qp_g D' p) fun t ht => (hd p t hp ht).symm]
      exact K _ (qx_in st hP hd)
  · intro n i f hi I nx
    obtain ⟨m1, m2, m3, m4⟩ := qp_mv_f k hk (qp_po i) (qp_po_lt i)
    refine br_f (nI_ge (b := 256) hi (by decide)) (qx_po hi (qx_mv hk (qp_po_lt i) (qx_bo m1 ⟨vp_in_nI hi (by decide), vp_in_nI (qp_bo_lt _) (by decide), qm_u (qp_bo (qp_mv k (qp_po i))) (nI (qp_ds C 4 (P p) i)) (qm_i (nx _ fun j hj hl => ?_)) rfl (by have := qp_bo_lt (qp_mv k (qp_po i)); omega) (qm_r i ((ho1 i hi).trans (hf1 i hi)))⟩)))
    by_cases c : j = qp_bo (qp_mv k (qp_po i))
    · rw [c, pk_us, qp_pb _ m1, m3, qp_bp i hi]
    · rw [pk_un c]
      refine I j hj ?_
      have : qp_bo (qp_iv k (qp_po j)) ≠ i := fun z => c (by
        obtain ⟨n1, n2, n3, n4⟩ := qp_mv_f k hk (qp_po j) (qp_po_lt j)
        have e := congrArg qp_po z
        rw [qp_pb _ n2] at e
        rw [← e, n4, qp_bp j hj])
      omega
/-! shift: dx is a - 15 -/
def qp_sf (a b : Nat) (g : Nat → Nat) (t : Nat) : Nat := if a ≤ t / 16 + 15 ∧ t / 16 + 15 < a + 16 ∧ b ≤ t % 16 + 15 ∧ t % 16 + 15 < b + 16 then g (16 * (t / 16 + 15 - a) + (t % 16 + 15 - b)) else 0
theorem qn_sf (x a : Nat) : nI x - (nI a - 15) = nI (x + 15) - nI a := by
  rw [← nI_add]
  show nI x - (nI a - 15) = nI x + 15 - nI a
  generalize nI x = y
  generalize nI a = z
  grind
theorem qn_sf_of (d : Int32) (h1 : ¬ d < -15) (h2 : d ≤ 15) : ∃ a, a ≤ 30 ∧ d = nI a - 15 := by
  rw [Int32.lt_iff_toInt_lt, show (-15 : Int32).toInt = -15 from by decide] at h1
  rw [Int32.le_iff_toInt_le, show (15 : Int32).toInt = 15 from by decide] at h2
  refine ⟨(d.toInt + 15).toNat, by omega, ?_⟩
  apply Int32.toInt_inj.mp
  rw [show (15 : Int32) = nI 15 from rfl, pk_sub_toInt (by omega) (by decide)]
  omega
/-- a coordinate moved: within or not -/
theorem qn_co {x a : Nat} (hx : x < 16) (ha : a ≤ 30) : (a ≤ x + 15 ∧ x + 15 < a + 16 ∧ nI x - (nI a - 15) = nI (x + 15 - a)) ∨ (¬ (a ≤ x + 15 ∧ x + 15 < a + 16) ∧ (nI x - (nI a - 15) < 0 ∨ (¬ nI x - (nI a - 15) < 0 ∧ 16 ≤ nI x - (nI a - 15)))) := by
  rw [qn_sf]
  by_cases c : a ≤ x + 15
  · rw [pk_sub c]
    by_cases d : x + 15 < a + 16
    · exact Or.inl ⟨c, d, rfl⟩
    · exact Or.inr ⟨fun z => d z.2, Or.inr ⟨nI_pos (by omega), nI_le (a := 16) (by omega) (by omega)⟩⟩
  · exact Or.inr ⟨fun z => c z.1, Or.inl (pk_sneg (by omega) (by omega))⟩
theorem qx_pt {post : Int32 → Prop} {x y a b : Nat} (hx : x < 16) (hy : y < 16) (ha : a ≤ 30) (hb : b ≤ 30) (K1 : a ≤ x + 15 ∧ x + 15 < a + 16 ∧ b ≤ y + 15 ∧ y + 15 < b + 16 → nI x - (nI a - 15) = nI (x + 15 - a) → nI y - (nI b - 15) = nI (y + 15 - b) → post 1) (K0 : ¬ (a ≤ x + 15 ∧ x + 15 < a + 16 ∧ b ≤ y + 15 ∧ y + 15 < b + 16) → post 0) : wpX_isPoint post (nI x - (nI a - 15)) (nI y - (nI b - 15)) := by
  rcases qn_co hx ha with ⟨a1, a2, a3⟩ | ⟨a1, a2 | ⟨a2, a3⟩⟩
  · rcases qn_co hy hb with ⟨b1, b2, b3⟩ | ⟨b1, b2 | ⟨b2, b3⟩⟩
    · have k := K1 ⟨a1, a2, b1, b2⟩ a3 b3
      rw [a3, b3]
      exact qx_isT (by omega) (by omega) k
    · rw [a3]
      exact br_f (nI_pos (by omega)) (br_f (nI_ge (b := 16) (by omega) (by decide)) (br_t b2 (K0 (by omega))))
    · rw [a3]
      exact br_f (nI_pos (by omega)) (br_f (nI_ge (b := 16) (by omega) (by decide)) (br_f b2 (br_t b3 (K0 (by omega)))))
  · exact br_t a2 (K0 (by omega))
  · exact br_f a2 (br_t a3 (K0 (by omega)))
theorem qx_shift {D D' : Nat → Nat} {x : SX} (R : qx_R D x) {p a b : Nat} (hp : p < 3) (ha : a ≤ 30) (hb : b ≤ 30) {dx dy : Int32} (ex : dx = nI a - 15) (ey : dy = nI b - 15) (x1 : ¬ dx < -15) (x2 : ¬ 15 < dx) (y1 : ¬ dy < -15) (y2 : dy ≤ 15) (to : qp_to D D' p (qp_sf a b (qp_g D p))) {post : Int32 → SX → Prop} (K : ∀ x', qx_R D' x' → post (nI (qp_sum (qp_g D' p) 256)) x') : wpX_shift post x (nI p) dx dy := by
  refine qx_el (Q := fun x => wpX_shift post x (nI p) dx dy) (fun u C N B U T P mk fr ot dr rt st hP hd => ?_) R
  obtain ⟨tp, utp⟩ := hP p hp
  have d01 : ∀ k, qp_ds C 4 (P p) k ≤ 1 := fun k => qp_ds_01 _ _ _ tp
  unfold wpX_shift
  dsimp only
  refine qx_isP hp (br_f (by decide) (br_f x1 (br_f x2 (br_f y1 (br_t y2 ?_)))))
  refine qx_unfold hp tp fun fr1 hf1 => qx_keep fun ot1 ho1 => ?_
  refine pk_loop (fun n i f => wX_shift_48 post (nI p) dx dy (nI u) n (nI i) (qa_n C) (qa_n N) (qa_n B) (qa_n U) mk (qa_n P) f ot1 dr (qa_n T) rt) (qp_fi (fun j => qp_sf a b (fun t => qp_ds C 4 (P p) (qp_bo t)) (qp_po j)) (qp_ds C 4 (P p))) 256 0 fr1 (by omega) ⟨fun k hk => absurd hk (by omega), fun k _ hk => hf1 k hk⟩ ?_ ?_
  · intro n f I
    refine br_t (by decide) (qx_fo st hP hd hp (f := fun j => qp_sf a b (fun t => qp_ds C 4 (P p) (qp_bo t)) (qp_po j)) (fun j hj => ⟨I.1 j hj, ?_⟩) (qp_to_c to fun t ht => ?_) fun u C N B U T P mk fr dr st hP hd => ⟨vp_in_nI hp (by decide), qx_arK st hP hd hp K⟩)
    · unfold qp_sf
      split
      · exact d01 _
      · omega
    · rw [qp_pb t ht]
      unfold qp_sf
      split
      · rename_i h
        exact (hd p _ hp (by omega)).symm
      · rfl
  · intro n i f hi I nx
    have pl := qp_po_lt i
    refine br_f (nI_ge (b := 256) hi (by decide)) (qx_po hi (nm_r (e' := nI (qp_po i / 16) - (nI a - 15)) (by rw [qn_shr4 (by omega), ex]) (nm_r (e' := nI (qp_po i % 16) - (nI b - 15)) (by rw [qn_and15 (by omega), ey]) ⟨vp_in_nI hi (by decide), qm_u i 0 ?_⟩)))
    refine qx_pt (by omega) (by omega) ha hb (fun c e1 e2 => br_f (by decide) ?_) (fun c => br_t rfl (qm_i (nx _ ?_)))
    · refine qx_bo' (t := 16 * (qp_po i / 16 + 15 - a) + (qp_po i % 16 + 15 - b)) (by rw [e1, e2, qn_16]) (by omega) ⟨vp_in_nI (qp_bo_lt _) (by decide), vp_in_nI hi (by decide), qm_u i (nI (qp_sf a b (fun t => qp_ds C 4 (P p) (qp_bo t)) (qp_po i))) (qm_i (nx _ ?_)) rfl (by omega) (qm_r _ ?_ rfl (by have := qp_bo_lt (16 * (qp_po i / 16 + 15 - a) + (qp_po i % 16 + 15 - b)); omega))⟩
      · have e : upd (upd f i 0) i (nI (qp_sf a b (fun t => qp_ds C 4 (P p) (qp_bo t)) (qp_po i))) = upd f i (nI (qp_sf a b (fun t => qp_ds C 4 (P p) (qp_bo t)) (qp_po i))) := by
          funext j
          by_cases c : j = i
          · rw [c, pk_us, pk_us]
          · rw [pk_un c, pk_un c, pk_un c]
        rw [e]
        exact qp_fi_u I
      · refine ((ho1 _ (qp_bo_lt _)).trans (hf1 _ (qp_bo_lt _))).trans ?_
        unfold qp_sf
        rw [if_pos c]
    · have e : qp_sf a b (fun t => qp_ds C 4 (P p) (qp_bo t)) (qp_po i) = 0 := if_neg c
      have := qp_fi_u I
      rw [e] at this
      exact this
end
section
/-! X: areaIn, within, border, tilesOf, next -/
theorem qx_areaIn {D : Nat → Nat} {x : SX} (R : qx_R D x) {p lo up : Nat} (hp : p < 3) (hr : qv_rc lo up) {post : Int32 → SX → Prop} (K : ∀ x', qx_R D x' → post (nI (qp_sum (fun t => if qp_in lo up t = 1 then D (256 * p + t) else 0) 256)) x') : wpX_areaIn post x (nI p) (nI lo) (nI up) := by
  refine qx_el (Q := fun x => wpX_areaIn post x (nI p) (nI lo) (nI up)) (fun u C N B U T P mk fr ot dr rt st hP hd => ?_) R
  obtain ⟨tp, utp⟩ := hP p hp
  unfold wpX_areaIn
  dsimp only
  refine qx_isP hp (br_f (by decide) (qx_isR hr (br_f (by decide) ?_)))
  refine qx_unfold hp tp fun fr1 hf1 => ?_
  refine pk_loop (fun n i s => wX_areaIn_31 post (nI lo) (nI up) (nI u) (qa_n C) (qa_n N) (qa_n B) (qa_n U) mk (qa_n P) fr1 ot dr (qa_n T) rt n s (nI i)) (fun i s => s = nI (qp_sum (fun k => if qp_in lo up (qp_po k) = 1 then qp_ds C 4 (P p) k else 0) i)) 256 0 0 (by omega) rfl ?_ ?_
  · intro n s I
    subst I
    refine br_t (by decide) ?_
    rw [← qp_sum_perm]
    rw [qp_sum_congr (g := fun t => if qp_in lo up t = 1 then D (256 * p + t) else 0) 256 (fun t ht => by rw [qp_pb t ht, hd p t hp ht])]
    exact K _ (qx_in st hP hd)
  · intro n i s hi I nx
    subst I
    refine br_f (nI_ge (b := 256) hi (by decide)) (qx_po hi (qx_inR hr.1 hr.2.1 (qp_po_lt i) ?_))
    have i01 : qp_in lo up (qp_po i) ≤ 1 := by unfold qp_in; split <;> omega
    refine pk_eq (qp_in lo up (qp_po i)) 0 (fun e => nm_r (nI_add _ 0) (qm_i (nx _ ?_))) (fun e => ⟨vp_in_nI hi (by decide), nm_r (e' := nI (qp_sum (fun k => if qp_in lo up (qp_po k) = 1 then qp_ds C 4 (P p) k else 0) i + qp_ds C 4 (P p) i)) (by rw [nI_clamp (by omega), hf1 i hi]; exact nI_add _ _) (qm_i (nx _ ?_))⟩) rfl rfl (by omega) (by omega)
    · show _ = nI (_ + if qp_in lo up (qp_po i) = 1 then _ else 0)
      rw [if_neg (by omega)]
    · show _ = nI (_ + if qp_in lo up (qp_po i) = 1 then _ else 0)
      rw [if_pos (by omega)]
theorem qx_within {D : Nat → Nat} {x : SX} (R : qx_R D x) {p q : Nat} (hp : p < 3) (hq : q < 3) {post : Int32 → SX → Prop} (K1 : (∀ t, t < 256 → D (256 * p + t) ≤ D (256 * q + t)) → ∀ x', qx_R D x' → post 1 x') (K0 : (¬ ∀ t, t < 256 → D (256 * p + t) ≤ D (256 * q + t)) → ∀ x', qx_R D x' → post 0 x') : wpX_within post x (nI p) (nI q) := by
  refine qx_el (Q := fun x => wpX_within post x (nI p) (nI q)) (fun u C N B U T P mk fr ot dr rt st hP hd => ?_) R
  obtain ⟨tp, utp⟩ := hP p hp
  obtain ⟨tq, utq⟩ := hP q hq
  have p4 := qp_tr_lt tp
  have q4 := qp_tr_lt tq
  unfold wpX_within
  dsimp only
  refine qx_isP hp (br_f (by decide) (qx_isP hq (br_f (by decide) ⟨vp_in_nI hp (by decide), vp_in_nI hq (by decide), pk_eq (P p) (P q) (fun e => K1 (fun t ht => ?_) _ (qx_in st hP hd)) (fun e => ?_) (qm_r p rfl) (qm_r q rfl) (by omega) (by omega)⟩)))
  · rw [← hd p t hp ht, ← hd q t hq ht, e]
    exact Nat.le_refl _
  · refine qx_unfold hp tp fun fr1 hf1 => qx_keep fun ot1 ho1 => qx_unfold hq tq fun fr2 hf2 => ?_
    refine pk_loop (σ := Unit) (fun n i _ => wX_within_49 post (nI u) (qa_n C) (qa_n N) (qa_n B) (qa_n U) mk (qa_n P) fr2 ot1 dr (qa_n T) rt n (nI i)) (fun i _ => ∀ k, k < i → qp_ds C 4 (P p) k ≤ qp_ds C 4 (P q) k) 256 0 () (by omega) (fun k hk => absurd hk (by omega)) ?_ ?_
    · intro n _ I
      refine br_t (by decide) (K1 (fun t ht => ?_) _ (qx_in st hP hd))
      rw [← hd p t hp ht, ← hd q t hq ht]
      exact I _ (qp_bo_lt t)
    · intro n i _ hi I nx
      have a := qp_ds_01 _ _ i tp
      have b := qp_ds_01 _ _ i tq
      refine br_f (nI_ge (b := 256) hi (by decide)) ⟨vp_in_nI hi (by decide), vp_in_nI hi (by decide), pk_le (qp_ds C 4 (P p) i) (qp_ds C 4 (P q) i) (fun e => qm_i (nx () fun k hk => ?_)) (fun e => K0 (fun z => ?_) _ (qx_in st hP hd)) (qm_r i ((ho1 i hi).trans (hf1 i hi))) (qm_r i (hf2 i hi)) (by omega) (by omega)⟩
      · by_cases c : k = i
        · rw [c]; exact e
        · exact I k (by omega)
      · have := z (qp_po i) (qp_po_lt i)
        rw [← hd p _ hp (qp_po_lt i), ← hd q _ hq (qp_po_lt i), qp_bp i hi] at this
        omega
/-- the number of neighbours that differ -/
def qp_b1 (g : Nat → Nat) (t : Nat) : Nat := if t % 16 < 15 ∧ g t ≠ g (t + 1) then 1 else 0
def qp_b2 (g : Nat → Nat) (t : Nat) : Nat := if t < 240 ∧ g t ≠ g (t + 16) then 1 else 0
def qp_bd (g : Nat → Nat) : Nat := qp_sum (fun t => qp_b1 g t + qp_b2 g t) 256
theorem qn_xor {a b : Nat} (ha : a ≤ 1) (hb : b ≤ 1) : nI a ^^^ nI b = nI (if a ≠ b then 1 else 0) := by
  have := (qn_jn a (by omega) b (by omega)).2.2.1
  rw [this]
  unfold qp_jn
  by_cases c : a = b
  · rw [if_neg (by omega), if_neg (by omega), if_pos rfl, if_pos c, if_neg (fun z => z c)]
  · rw [if_neg (by omega), if_neg (by omega), if_pos rfl, if_neg c, if_pos c]
theorem qx_border {D : Nat → Nat} {x : SX} (R : qx_R D x) {p : Nat} (hp : p < 3) {post : Int32 → SX → Prop} (K : ∀ x', qx_R D x' → post (nI (qp_bd (qp_g D p))) x') : wpX_border post x (nI p) := by
  refine qx_el (Q := fun x => wpX_border post x (nI p)) (fun u C N B U T P mk fr ot dr rt st hP hd => ?_) R
  obtain ⟨tp, utp⟩ := hP p hp
  have d01 : ∀ t, t < 256 → qp_g D p t ≤ 1 := fun t ht => by
    show D (256 * p + t) ≤ 1
    rw [← hd p t hp ht]
    exact qp_ds_01 _ _ _ tp
  unfold wpX_border
  dsimp only
  refine qx_isP hp (br_f (by decide) (qx_unfold hp tp fun fr1 hf1 => ?_))
  have hg : ∀ t, t < 256 → fr1 (qp_bo t) = nI (qp_g D p t) := fun t ht => by rw [hf1 _ (qp_bo_lt t), hd p t hp ht]; rfl
  refine pk_loop (fun n i s => wX_border_18 post (nI u) (qa_n C) (qa_n N) (qa_n B) (qa_n U) mk (qa_n P) fr1 ot dr (qa_n T) rt n s (nI i)) (fun i s => s = nI (qp_sum (fun t => qp_b1 (qp_g D p) t + qp_b2 (qp_g D p) t) i)) 256 0 0 (by omega) rfl ?_ ?_
  · intro n s I
    subst I
    exact br_t (by decide) (K _ (qx_in st hP hd))
  · intro n i s hi I nx
    subst I
    have bl := qp_bo_lt i
    refine br_f (nI_ge (b := 256) hi (by decide)) (qx_bo hi ⟨vp_in_nI bl (by decide), nm_r (qm_r _ (hg i hi) rfl (by omega)) ?_⟩)
    have dn : ∀ s1 : Nat, s1 = qp_sum (fun t => qp_b1 (qp_g D p) t + qp_b2 (qp_g D p) t) i + qp_b1 (qp_g D p) i → wX_border_62 post (wX_border_18 post (nI u) (qa_n C) (qa_n N) (qa_n B) (qa_n U) mk (qa_n P) fr1 ot dr (qa_n T) rt n) (nI s1) (nI i) (nI (qp_g D p i)) (nI u) (qa_n C) (qa_n N) (qa_n B) (qa_n U) mk (qa_n P) fr1 ot dr (qa_n T) rt := by
      intro s1 e
      refine pk_le 240 i (fun h => qm_i (nx _ ?_)) (fun h => qx_bo' (nI_add i 16) (by omega) ⟨vp_in_nI (qp_bo_lt _) (by decide), nm_r (e' := nI (s1 + (if qp_g D p i ≠ qp_g D p (i + 16) then 1 else 0))) ?_ (qm_i (nx _ ?_))⟩) rfl rfl (by omega) (by omega)
      · rw [e]
        show nI _ = nI (_ + (_ + qp_b2 (qp_g D p) i))
        rw [show qp_b2 (qp_g D p) i = 0 from if_neg (by omega), Nat.add_zero]
      · rw [qm_r _ (hg (i + 16) (by omega)) rfl (by have := qp_bo_lt (i + 16); omega), qn_xor (d01 i hi) (d01 _ (by omega))]
        exact nI_add _ _
      · rw [e]
        show nI _ = nI (_ + (_ + qp_b2 (qp_g D p) i))
        rw [Nat.add_assoc]
        have : qp_b2 (qp_g D p) i = (if qp_g D p i ≠ qp_g D p (i + 16) then 1 else 0) := by
          unfold qp_b2
          by_cases c : qp_g D p i ≠ qp_g D p (i + 16)
          · rw [if_pos c, if_pos ⟨h, c⟩]
          · rw [if_neg c, if_neg (fun z => c z.2)]
        rw [this]
    refine pk_le 15 (i % 16) (fun h => dn _ ?_) (fun h => qx_bo' (nI_1 i) (by omega) ⟨vp_in_nI (qp_bo_lt _) (by decide), nm_r (e' := nI (qp_sum (fun t => qp_b1 (qp_g D p) t + qp_b2 (qp_g D p) t) i + (if qp_g D p i ≠ qp_g D p (i + 1) then 1 else 0))) ?_ (dn _ ?_)⟩) rfl (qn_and15 (by omega)) (by omega) (by omega)
    · rw [show qp_b1 (qp_g D p) i = 0 from if_neg (by omega), Nat.add_zero]
    · rw [qm_r _ (hg (i + 1) (by omega)) rfl (by have := qp_bo_lt (i + 1); omega), qn_xor (d01 i hi) (d01 _ (by omega))]
      exact nI_add _ _
    · have : qp_b1 (qp_g D p) i = (if qp_g D p i ≠ qp_g D p (i + 1) then 1 else 0) := by
        unfold qp_b1
        by_cases c : qp_g D p i ≠ qp_g D p (i + 1)
        · rw [if_pos c, if_pos ⟨h, c⟩]
        · rw [if_neg c, if_neg (fun z => c z.2)]
      rw [this]
theorem qx_tilesOf {D : Nat → Nat} {x : SX} (R : qx_R D x) {p h : Nat} (hp : p < 3) (hh : h ≤ 4) {post : Int32 → Prop} (K : post (nI (qp_tal (qp_g D p) (2 ^ h)))) : wpX_tilesOf post x (nI p) (nI (2 ^ h)) := by
  refine qx_el (Q := fun x => wpX_tilesOf post x (nI p) (nI (2 ^ h))) (fun u C N B U T P mk fr ot dr rt st hP hd => ?_) R
  obtain ⟨u0, u1, ub, cl, can, un, tc, cs, cu⟩ := st
  obtain ⟨tp, utp⟩ := hP p hp
  have sh1 : ∀ h, h < 5 → (1 : Int32) <<< (nI h &&& 31) = nI (2 ^ h) := by decide +kernel
  have lt2 : ∀ h, h < 5 → ∀ i, i < h → 2 ^ i < 2 ^ h ∧ 2 ^ h < 2 ^ 31 := by decide
  have bnd : ∀ h, h < 5 → (256 : Int32) >>> ((2 * nI h) &&& 31) = nI (4 ^ (4 - h)) ∧ 4 ^ (4 - h) ≤ 256 ∧ 4 ^ (4 - h) * 4 ^ h = 256 := by decide +kernel
  have smd : ∀ h, h < 5 → (((2 * nI h) &&& 31).toBitVec.smod 32).toNat = 2 * h ∧ 2 ^ (2 * h) = 4 ^ h := by decide +kernel
  obtain ⟨b1, b2, b3⟩ := bnd h (by omega)
  obtain ⟨m1, m2⟩ := smd h (by omega)
  unfold wpX_tilesOf
  dsimp only
  have last : wX_tilesOf_29 post (nI p) (nI (2 ^ h)) (nI h) (nI u) (qa_n C) (qa_n N) (qa_n B) (qa_n U) mk (qa_n P) fr ot dr (qa_n T) rt := by
    refine br_t (sh1 h (by omega)) (nm_r b1 ?_)
    refine pk_loop (fun n i s => wX_tilesOf_54 post (nI p) (nI h) (nI (4 ^ (4 - h))) (nI u) (qa_n C) (qa_n N) (qa_n B) (qa_n U) mk (qa_n P) fr ot dr (qa_n T) rt n s (nI i)) (fun i s => s = nI (qp_sum (fun k => if qp_ht C 4 (P p) (k * 4 ^ h) = h then 1 else 0) i)) (4 ^ (4 - h)) 0 0 (Nat.zero_le _) rfl ?_ ?_
    · intro n s I
      subst I
      rw [← qp_tal_h cl can tp utp (g := qp_g D p) (fun t ht => (hd p t hp ht).symm) hh]
      exact br_t (Int32.le_refl _) K
    · intro n i s hi I nx
      subst I
      have il : i * 4 ^ h < 256 := by
        have := Nat.mul_lt_mul_of_pos_right hi (Nat.pow_pos (n := h) (show 0 < 4 by decide))
        omega
      have hl := qp_ht_le (C := C) 4 (P p) (i * 4 ^ h)
      refine br_f (nI_ge hi (by omega)) ⟨vp_in_nI hp (by decide), qx_hei' (k := i * 4 ^ h) (qm_r p rfl) (by rw [pk_shlN _ (2 * h) m1 (by rw [m2]; omega), m2]) il tp (pk_eq (qp_ht C 4 (P p) (i * 4 ^ h)) h (fun e => nm_r (nI_1 _) (qm_i (nx _ ?_))) (fun e => nm_r (nI_add _ 0) (qm_i (nx _ ?_))) rfl rfl (by omega) (by omega))⟩
      · show _ = nI (_ + if qp_ht C 4 (P p) (i * 4 ^ h) = h then 1 else 0)
        rw [if_pos e]
      · show _ = nI (_ + if qp_ht C 4 (P p) (i * 4 ^ h) = h then 1 else 0)
        rw [if_neg e]
  refine qx_isP hp (br_f (by decide) ?_)
  refine pk_loop (σ := Unit) (fun n i _ => wX_tilesOf_11 post (nI p) (nI (2 ^ h)) (nI u) (qa_n C) (qa_n N) (qa_n B) (qa_n U) mk (qa_n P) fr ot dr (qa_n T) rt n (nI i)) (fun _ _ => True) h 0 () (by omega) trivial ?_ ?_
  · intro n _ _
    exact br_c (fun _ => last) (fun _ => br_t (by rw [sh1 h (by omega)]; exact Int32.le_refl _) last)
  · intro n i _ hi _ nx
    obtain ⟨l1, l2⟩ := lt2 h (by omega) i hi
    refine br_f (nI_ge (b := 4) (by omega) (by decide)) (br_f ?_ (qm_i (nx () trivial)))
    rw [sh1 i (by omega)]
    exact nI_ge l1 l2
/-- no size of a tile -/
theorem qx_tilesOf_0 {x : SX} {p : Nat} (hp : p < 3) {z : Int32} (hz : ∀ h, h ≤ 4 → ¬ z = nI (2 ^ h)) {post : Int32 → Prop} (K : post (-2)) : wpX_tilesOf post x (nI p) z := by
  obtain ⟨us, ch, cn, bk, iu, mk, pc, fr, ot, dr, ct, rt⟩ := x
  have sh1 : ∀ h, h < 5 → (1 : Int32) <<< (nI h &&& 31) = nI (2 ^ h) := by decide +kernel
  unfold wpX_tilesOf
  dsimp only
  have last : ∀ h, h ≤ 4 → wX_tilesOf_29 post (nI p) z (nI h) us ch cn bk iu mk pc fr ot dr ct rt := fun h hh => br_f (by rw [sh1 h (by omega)]; exact fun e => hz h hh e.symm) K
  refine qx_isP hp (br_f (by decide) ?_)
  refine pk_loop (σ := Unit) (fun n i _ => wX_tilesOf_11 post (nI p) z us ch cn bk iu mk pc fr ot dr ct rt n (nI i)) (fun _ _ => True) 4 0 () (by omega) trivial ?_ ?_
  · intro n _ _
    exact br_t (by decide) (last 4 (by omega))
  · intro n i _ hi _ nx
    exact br_f (nI_ge (b := 4) hi (by decide)) (br_c (fun _ => last i (by omega)) (fun _ => qm_i (nx () trivial)))
/-- the first set point from i on -/
theorem qx_next31 {D : Nat → Nat} {x : SX} (R : qx_R D x) {p : Nat} (hp : p < 3) {post : Int32 → Prop} {i : Nat} (hi : i ≤ 256) (K1 : ∀ t, i ≤ t → t < 256 → D (256 * p + t) = 1 → (∀ s, i ≤ s → s < t → D (256 * p + s) = 0) → post (nI t)) (K0 : (∀ s, i ≤ s → s < 256 → D (256 * p + s) = 0) → post (-2)) : ∃ n, (match x with | (us, ch, cn, bk, iu, m', pc, fr, ot, dr, ct, rt) => wX_next_31 post (nI p) us ch cn bk iu m' pc fr ot dr ct rt n (nI i)) := by
  refine qx_el (Q := fun x => ∃ n, (match x with | (us, ch, cn, bk, iu, m', pc, fr, ot, dr, ct, rt) => wX_next_31 post (nI p) us ch cn bk iu m' pc fr ot dr ct rt n (nI i))) (fun u C N B U T P mk fr ot dr rt st hP hd => ?_) R
  obtain ⟨tp, utp⟩ := hP p hp
  have d01 : ∀ t, t < 256 → D (256 * p + t) ≤ 1 := fun t ht => by
    rw [← hd p t hp ht]
    exact qp_ds_01 _ _ _ tp
  refine pk_loop (σ := Unit) (fun n j _ => wX_next_31 post (nI p) (nI u) (qa_n C) (qa_n N) (qa_n B) (qa_n U) mk (qa_n P) fr ot dr (qa_n T) rt n (nI j)) (fun j _ => i ≤ j ∧ ∀ s, i ≤ s → s < j → D (256 * p + s) = 0) 256 i () hi ⟨Nat.le_refl _, fun s h1 h2 => absurd h2 (by omega)⟩ ?_ ?_
  · intro n _ I
    exact br_t (by decide) (K0 I.2)
  · intro n j _ hj I nx
    have dj := d01 j hj
    refine br_f (nI_ge (b := 256) hj (by decide)) ⟨vp_in_nI hp (by decide), qx_col' (qm_r p rfl) rfl hj tp ?_⟩
    rw [hd p j hp hj]
    refine pk_eq (D (256 * p + j)) 1 (fun e => K1 j I.1 hj e I.2) (fun e => qm_i (nx () ⟨by omega, fun s h1 h2 => ?_⟩)) rfl rfl (by omega) (by omega)
    by_cases c : s = j
    · rw [c]; omega
    · exact I.2 s h1 (by omega)
end
section
/-! X: regions -/
theorem qp_ht_c {C : Nat → Nat} : ∀ (h n k j : Nat), j / 4 ^ qp_ht C h n k = k / 4 ^ qp_ht C h n k → qp_ht C h n j = qp_ht C h n k := by
  intro h
  induction h with
  | zero => intro n k j _; rfl
  | succ h ih =>
    intro n k j e
    by_cases hn : n ≤ 1
    · rw [qp_ht_e _ _ hn, qp_ht_e _ _ hn]
    · rw [qp_ht_s _ _ hn] at e
      have e2 := qp_dv (qp_ht_le h _ k) e
      rw [qp_ht_s _ _ hn, qp_ht_s _ _ hn, e2]
      exact ih _ _ _ e
/-- the first place of the tile -/
def qp_ti (C : Nat → Nat) (n k : Nat) : Nat := k / 4 ^ qp_ht C 4 n k * 4 ^ qp_ht C 4 n k
theorem qp_ti_le (C : Nat → Nat) (n k : Nat) : qp_ti C n k ≤ k := Nat.div_mul_le_self _ _
theorem qp_ti_dv (C : Nat → Nat) (n k : Nat) : qp_ti C n k / 4 ^ qp_ht C 4 n k = k / 4 ^ qp_ht C 4 n k := Nat.mul_div_cancel _ (Nat.pow_pos (by decide))
theorem qp_ti_ti (C : Nat → Nat) (n k : Nat) : qp_ti C n (qp_ti C n k) = qp_ti C n k := by
  have e := qp_ht_c 4 n k (qp_ti C n k) (qp_ti_dv C n k)
  show qp_ti C n k / 4 ^ qp_ht C 4 n (qp_ti C n k) * 4 ^ qp_ht C 4 n (qp_ti C n k) = _
  rw [e, qp_ti_dv]
  rfl
theorem qp_ri_m {g R F : Nat → Nat} {E E' : Nat → Nat → Prop} {n : Nat} (h : ∀ a b, E' a b → E a b) (I : qp_ri g R F E n) : qp_ri g R F E' n := ⟨I.1, I.2.1, fun s t z => I.2.2.1 s t (h s t z), I.2.2.2⟩
/-- the pairs done before point t -/
def qp_E (g : Nat → Nat) (t : Nat) : Nat → Nat → Prop := fun a b => a < t ∧ qp_ad a b ∧ g a = 1 ∧ g b = 1
theorem qp_ri_i {C g : Nat → Nat} {n : Nat} (hg : ∀ t, t < 256 → g t = qp_ds C 4 n (qp_bo t)) : qp_ri g (qp_ti C n) (qp_ti C n) (qp_E g 0) (qp_cn (fun k => qp_ti C n k == k && g (qp_po k) == 1) 256) := by
  refine ⟨fun k hk => ⟨qp_ti_le C n k, Nat.lt_of_le_of_lt (qp_ti_le C n k) hk, qp_ti_ti C n k, fun h => h, qp_ti_ti C n k⟩, fun k hk gk => ?_, fun s t z => absurd z.1 (by omega), rfl⟩
  have hl := qp_ht_le (C := C) 4 n k
  have ev : ∀ j, j < 256 → j / 4 ^ qp_ht C 4 n k = k / 4 ^ qp_ht C 4 n k → g (qp_po j) = 1 := fun j hj e => by
    have := qp_ht_a 4 n k j e
    rw [hg _ (qp_po_lt _), qp_bp k hk] at gk
    rw [hg _ (qp_po_lt _), qp_bp j hj, this, gk]
  refine ⟨ev _ (Nat.lt_of_le_of_lt (qp_ti_le C n k) hk) (qp_ti_dv C n k), ?_⟩
  have b := qp_con_b (g := g) hl _ (qp_po k) (qp_po_lt k) rfl fun s hs a b => by
    have := (qp_bo_div _ hl s (qp_po k) hs (qp_po_lt k)).mpr ⟨a, b⟩
    rw [qp_bp k hk] at this
    have := ev (qp_bo s) (qp_bo_lt s) this
    rw [qp_pb s hs] at this
    exact this
  rw [← qp_cor _ (by omega) _ (qp_po_lt k), qp_bp k hk] at b
  exact b
section
variable {us : Int32} {ch cn bk iu mk pc fr ot dr ct rt : Nat → Int32}
theorem qx_find4 {post : Int32 → Prop} {R F : Nat → Nat} (uf : qp_uf R F) (hrt : ∀ k, k < 256 → rt k = nI (R k)) : ∀ (m k st : Nat), k < 256 → k ≤ m → st + k < 256 → post (nI (F k)) → wX_find_4 post us ch cn bk iu mk pc fr ot dr ct rt (m + 1) (nI k) (nI st) := by
  intro m
  induction m with
  | zero =>
    intro k st hk h0 hs K
    obtain ⟨u1, -, -, u4, -⟩ := uf k hk
    have e : R k = k := by omega
    rw [u4 e] at K
    exact br_f (nI_ge (b := 256) (by omega) (by decide)) ⟨vp_in_nI hk (by decide), br_t (qm_r k ((hrt k hk).trans (congrArg nI e))) K⟩
  | succ m ih =>
    intro k st hk hm hs K
    obtain ⟨u1, -, -, u4, u5⟩ := uf k hk
    refine br_f (nI_ge (b := 256) (by omega) (by decide)) ⟨vp_in_nI hk (by decide), pk_eq (R k) k (fun e => ?_) (fun e => ⟨vp_in_nI hk (by decide), nm_r (e' := nI (R k)) (qm_r k (hrt k hk)) (qm_i (ih (R k) (st + 1) (by omega) (by omega) (by omega) (by rw [u5]; exact K)))⟩) (qm_r k (hrt k hk)) rfl (by omega) (by omega)⟩
    rw [u4 e] at K
    exact K
theorem qx_find {post : Int32 → Prop} {R F : Nat → Nat} (uf : qp_uf R F) (hrt : ∀ k, k < 256 → rt k = nI (R k)) {k : Nat} (hk : k < 256) (K : post (nI (F k))) : wpX_find post (us, ch, cn, bk, iu, mk, pc, fr, ot, dr, ct, rt) (nI k) :=
  Exists.intro (k + 1) (qx_find4 uf hrt k k 0 hk (Nat.le_refl _) (by omega) K)
theorem qx_merge {post : Int32 → SX → Prop} {g R F : Nat → Nat} {E : Nat → Nat → Prop} {n s t : Nat} (I : qp_ri g R F E n) (hrt : ∀ k, k < 256 → rt k = nI (R k)) (hfr : ∀ t, t < 256 → fr (qp_bo t) = nI (g t) ∧ g t ≤ 1) (hs : s < 256) (ht : t < 256) (ad : qp_ad s t) (gs : g s = 1) (K : ∀ (rt' : Nat → Int32) (R' F' : Nat → Nat) (r : Nat), r ≤ n → (∀ k, k < 256 → rt' k = nI (R' k)) → qp_ri g R' F' (fun a b => E a b ∨ (a = s ∧ b = t ∧ g t = 1)) (n - r) → post (nI r) (us, ch, cn, bk, iu, mk, pc, fr, ot, dr, ct, rt')) : wpX_merge post (us, ch, cn, bk, iu, mk, pc, fr, ot, dr, ct, rt) (nI (qp_bo s)) (nI (qp_bo t)) := by
  have bs := qp_bo_lt s
  have bt := qp_bo_lt t
  obtain ⟨f1, f2⟩ := hfr t ht
  refine And.intro (vp_in_nI bt (by decide)) (pk_eq (g t) 1 (fun gt => ?_) (fun gt => K rt R F 0 (Nat.zero_le _) hrt (qp_ri_m ?_ I)) (qm_r _ f1 rfl (by omega)) rfl (by omega) (by omega))
  · obtain ⟨-, fs, rs, -, -⟩ := I.1 _ bs
    obtain ⟨-, ft, rT, -, -⟩ := I.1 _ bt
    obtain ⟨gs1, cs⟩ := qp_ri_F I 256 (qp_bo s) bs (by omega) (by rw [qp_pb s hs]; exact gs)
    obtain ⟨gt1, ct⟩ := qp_ri_F I 256 (qp_bo t) bt (by omega) (by rw [qp_pb t ht]; exact gt)
    rw [qp_pb s hs] at cs
    rw [qp_pb t ht] at ct
    have cst : qp_con g s t := qp_con_s (qp_con_r s) hs ht gs gt (Or.inl ad)
    have ed : ∀ a b, (E a b ∨ (a = s ∧ b = t ∧ g t = 1)) → qp_ed E s t a b := fun a b h => h.imp_right fun z => ⟨z.1, z.2.1⟩
    refine qx_find I.1 hrt bs (qx_find I.1 hrt bt (pk_eq (F (qp_bo s)) (F (qp_bo t)) (fun e => K rt R F 0 (Nat.zero_le _) hrt (qp_ri_m ed (qp_ri_0 I e))) (fun e => pk_le (F (qp_bo s)) (F (qp_bo t)) (fun c => ?_) (fun c => ?_) rfl rfl (by omega) (by omega)) rfl rfl (by omega) (by omega)))
    · have r := qp_ri_1 (s := s) (t := t) I fs ft rs rT (by omega) gs1 gt1 (qp_con_t (qp_con_c ct) (qp_con_t (qp_con_c cst) cs)) (Or.inl ⟨rfl, rfl⟩)
      refine br_t (nI_le (by omega) (by omega)) ⟨vp_in_nI ft (by decide), qm_u (F (qp_bo t)) _ (K _ _ _ 1 r.1 (fun k hk => ?_) (qp_ri_m ed r.2)) rfl (by omega) rfl⟩
      by_cases d : k = F (qp_bo t)
      · rw [d, pk_us, qa_us]
      · rw [pk_un d, qa_un R d]; exact hrt k hk
    · have r := qp_ri_1 (s := s) (t := t) I ft fs rT rs (by omega) gt1 gs1 (qp_con_t (qp_con_c cs) (qp_con_t cst ct)) (Or.inr ⟨rfl, rfl⟩)
      refine br_f (nI_ge (by omega) (by omega)) ⟨vp_in_nI fs (by decide), qm_u (F (qp_bo s)) _ (K _ _ _ 1 r.1 (fun k hk => ?_) (qp_ri_m ed r.2)) rfl (by omega) rfl⟩
      by_cases d : k = F (qp_bo s)
      · rw [d, pk_us, qa_us]
      · rw [pk_un d, qa_un R d]; exact hrt k hk
  · rintro a b (h | h)
    · exact h
    · exact absurd h.2.2 gt
theorem qx_rg88 {post : Int32 → SX → Prop} {g : Nat → Nat} (hfr : ∀ t, t < 256 → fr (qp_bo t) = nI (g t) ∧ g t ≤ 1) {R F : Nat → Nat} {m : Nat} (I0 : qp_ri g R F (qp_E g 0) m) (hrt : ∀ k, k < 256 → rt k = nI (R k)) (K : ∀ rt' : Nat → Int32, post (nI (qp_reg g)) (us, ch, cn, bk, iu, mk, pc, fr, ot, dr, ct, rt')) : ∃ n, wX_regions_88 post n (nI m) 0 us ch cn bk iu mk pc fr ot dr ct rt := by
  refine pk_loop (σ := Int32 × (Nat → Int32)) (fun n i s => wX_regions_88 post n s.1 (nI i) us ch cn bk iu mk pc fr ot dr ct s.2) (fun i s => ∃ (R F : Nat → Nat) (m : Nat), s.1 = nI m ∧ (∀ k, k < 256 → s.2 k = nI (R k)) ∧ qp_ri g R F (qp_E g i) m) 256 0 (nI m, rt) (by omega) ⟨R, F, m, rfl, hrt, I0⟩ ?_ ?_
  · rintro n ⟨s1, s2⟩ ⟨R, F, m, rfl, h2, I⟩
    refine br_t (by decide) ?_
    rw [qp_ri_e I fun s t hs ht a b c => ⟨hs, a, b, c⟩]
    exact K s2
  · rintro n i ⟨s1, s2⟩ hi ⟨R, F, m, rfl, h2, I⟩ nx
    have bl := qp_bo_lt i
    obtain ⟨f1, f2⟩ := hfr i hi
    refine br_f (nI_ge (b := 256) hi (by decide)) (qx_bo hi ⟨vp_in_nI bl (by decide), pk_eq (g i) 1 (fun gi => ?_) (fun gi => qm_i (nx (nI m, s2) ⟨R, F, m, rfl, h2, qp_ri_m (fun a b z => ⟨?_, z.2⟩) I⟩)) (qm_r _ f1 rfl (by omega)) rfl (by omega) (by omega)⟩)
    · have dn : ∀ (s2 : Nat → Int32) (R F : Nat → Nat) (m : Nat), (∀ k, k < 256 → s2 k = nI (R k)) → qp_ri g R F (fun a b => qp_E g i a b ∨ (a = i ∧ b = i + 1 ∧ i % 16 < 15 ∧ g (i + 1) = 1)) m → wX_regions_136 post (wX_regions_88 post n) (nI m) (nI i) (nI (qp_bo i)) us ch cn bk iu mk pc fr ot dr ct s2 := by
        intro s2 R F m h2 I
        refine pk_le 240 i (fun h => qm_i (nx (nI m, s2) ⟨R, F, m, rfl, h2, qp_ri_m (fun a b z => ?_) I⟩)) (fun h => qx_bo' (nI_add i 16) (by omega) (qx_merge I h2 hfr hi (by omega) (Or.inr ⟨rfl, h⟩) gi fun rt' R' F' r hr h2' I' => nm_r (pk_sub hr) (qm_i (nx (nI (m - r), rt') ⟨R', F', m - r, rfl, h2', qp_ri_m (fun a b z => ?_) I'⟩)))) rfl rfl (by omega) (by omega)
        · obtain ⟨z1, z2, z3, z4⟩ := z
          by_cases c : a = i
          · subst c
            rcases z2 with ⟨y1, y2⟩ | ⟨y1, y2⟩
            · subst y1
              exact Or.inr ⟨rfl, rfl, y2, z4⟩
            · omega
          · exact Or.inl ⟨by omega, z2, z3, z4⟩
        · obtain ⟨z1, z2, z3, z4⟩ := z
          by_cases c : a = i
          · subst c
            rcases z2 with ⟨y1, y2⟩ | ⟨y1, y2⟩
            · subst y1
              exact Or.inl (Or.inr ⟨rfl, rfl, y2, z4⟩)
            · subst y1
              exact Or.inr ⟨rfl, rfl, z4⟩
          · exact Or.inl (Or.inl ⟨by omega, z2, z3, z4⟩)
      refine pk_le 15 (i % 16) (fun h => dn s2 R F m h2 (qp_ri_m ?_ I)) (fun h => qx_bo' (nI_1 i) (by omega) (qx_merge I h2 hfr hi (by omega) (Or.inl ⟨rfl, h⟩) gi fun rt' R' F' r hr h2' I' => nm_r (pk_sub hr) (dn rt' R' F' (m - r) h2' (qp_ri_m ?_ I')))) rfl (qn_and15 (by omega)) (by omega) (by omega)
      · rintro a b (z | z)
        · exact z
        · omega
      · rintro a b (z | z)
        · exact Or.inl z
        · exact Or.inr ⟨z.1, z.2.1, z.2.2.2⟩
    · have z1 := z.1
      have : a ≠ i := fun c => gi (c ▸ z.2.2.1)
      omega
end
theorem qn_ti : ∀ h, h < 5 → ∀ k, k < 256 → nI k &&& ((((1 : Int32) <<< ((2 * nI h) &&& 31)) - 1) ^^^ (-1)) = nI (k / 4 ^ h * 4 ^ h) := by decide +kernel
theorem qx_regions {D : Nat → Nat} {x : SX} (R : qx_R D x) {p : Nat} (hp : p < 3) {post : Int32 → SX → Prop} (K : ∀ x', qx_R D x' → post (nI (qp_reg (qp_g D p))) x') : wpX_regions post x (nI p) := by
  refine qx_el (Q := fun x => wpX_regions post x (nI p)) (fun u C N B U T P mk fr ot dr rt st hP hd => ?_) R
  obtain ⟨tp, utp⟩ := hP p hp
  have d01 : ∀ t, t < 256 → qp_g D p t ≤ 1 := fun t ht => by
    show D (256 * p + t) ≤ 1
    rw [← hd p t hp ht]
    exact qp_ds_01 _ _ _ tp
  unfold wpX_regions
  dsimp only
  refine qx_isP hp (br_f (by decide) (qx_unfold hp tp fun fr1 hf1 => ?_))
  have hg : ∀ t, t < 256 → fr1 (qp_bo t) = nI (qp_g D p t) ∧ qp_g D p t ≤ 1 := fun t ht => ⟨by rw [hf1 _ (qp_bo_lt t), hd p t hp ht]; rfl, d01 t ht⟩
  have hk : ∀ k, k < 256 → fr1 k = nI (qp_g D p (qp_po k)) := fun k hk => by
    have := (hg (qp_po k) (qp_po_lt k)).1
    rw [qp_bp k hk] at this
    exact this
  refine pk_loop (σ := Int32 × (Nat → Int32)) (fun n i s => wX_regions_18 post (nI p) (nI u) n s.1 (nI i) (qa_n C) (qa_n N) (qa_n B) (qa_n U) mk (qa_n P) fr1 ot dr (qa_n T) s.2) (fun i s => s.1 = nI (qp_cn (fun k => qp_ti C (P p) k == k && qp_g D p (qp_po k) == 1) i) ∧ ∀ k, k < i → s.2 k = nI (qp_ti C (P p) k)) 256 0 (0, rt) (by omega) ⟨rfl, fun k hk => absurd hk (by omega)⟩ ?_ ?_
  · rintro n ⟨s1, s2⟩ ⟨rfl, h2⟩
    exact br_t (by decide) (qx_rg88 hg (qp_ri_i fun t ht => (hd p t hp ht).symm) h2 fun rt' => K _ (qx_in st hP hd))
  · rintro n i ⟨s1, s2⟩ hi ⟨rfl, h2⟩ nx
    have hl := qp_ht_le (C := C) 4 (P p) i
    have tl := qp_ti_le C (P p) i
    have gl := d01 _ (qp_po_lt i)
    refine br_f (nI_ge (b := 256) hi (by decide)) ⟨vp_in_nI hp (by decide), qx_hei' (qm_r p rfl) rfl hi tp (nm_r (e' := nI (qp_ti C (P p) i)) (qn_ti _ (by omega) i hi) ⟨vp_in_nI hi (by decide), qm_u i (nI (qp_ti C (P p) i)) ?_⟩)⟩
    have h3 : ∀ k, k < i + 1 → upd s2 i (nI (qp_ti C (P p) i)) k = nI (qp_ti C (P p) k) := fun k hk => by
      by_cases c : k = i
      · rw [c, pk_us]
      · rw [pk_un c]; exact h2 k (by omega)
    refine pk_eq (qp_ti C (P p) i) i (fun e => ⟨vp_in_nI hi (by decide), pk_eq (qp_g D p (qp_po i)) 1 (fun e2 => nm_r (nI_1 _) (qm_i (nx (_, _) ⟨?_, h3⟩))) (fun e2 => nm_r (nI_add _ 0) (qm_i (nx (_, _) ⟨?_, h3⟩))) (qm_r i (hk i hi)) rfl (by omega) (by omega)⟩) (fun e => nm_r (nI_add _ 0) (qm_i (nx (_, _) ⟨?_, h3⟩))) rfl rfl (by omega) (by omega)
    · show _ = nI (_ + if (qp_ti C (P p) i == i && qp_g D p (qp_po i) == 1) = true then 1 else 0)
      rw [if_pos (by rw [e, e2]; simp)]
      rfl
    · show _ = nI (_ + if (qp_ti C (P p) i == i && qp_g D p (qp_po i) == 1) = true then 1 else 0)
      rw [if_neg (by simp [e2])]
      rfl
    · show _ = nI (_ + if (qp_ti C (P p) i == i && qp_g D p (qp_po i) == 1) = true then 1 else 0)
      rw [if_neg (by simp [e])]
      rfl
end
section
/-! Y: count, hold and the writing methods -/
theorem qn_nb {a : Nat} (h : a ≤ 1) : vp_nar .boolean (nI a) = nI a := by
  rcases (by omega : a = 0 ∨ a = 1) with rfl | rfl <;> rfl
/-- the first i points of picture p are N -/
def qy_st (D : Nat → Nat) (p : Nat) (N : Nat → Nat) (i : Nat) : Nat → Nat := fun j => if 256 * p ≤ j ∧ j < 256 * p + i then N (j - 256 * p) else D j
theorem qy_st_0 (D : Nat → Nat) (p : Nat) (N : Nat → Nat) : qy_st D p N 0 = D := by
  funext j
  exact if_neg (by omega)
theorem qy_st_r (D : Nat → Nat) (p : Nat) (N : Nat → Nat) (i : Nat) : qy_st D p N i (256 * p + i) = D (256 * p + i) := if_neg (by omega)
theorem qy_st_s {D : Nat → Nat} {p : Nat} {N : Nat → Nat} {i v : Nat} (e : v = N i) : qa_u (qy_st D p N i) (256 * p + i) v = qy_st D p N (i + 1) := by
  funext j
  unfold qa_u qy_st
  by_cases c : j = 256 * p + i
  · rw [if_pos c, if_pos (by omega), e, show j - 256 * p = i by omega]
  · rw [if_neg c]
    by_cases d : 256 * p ≤ j ∧ j < 256 * p + i
    · rw [if_pos d, if_pos (by omega)]
    · rw [if_neg d, if_neg (by omega)]
theorem qy_st_k {D : Nat → Nat} {p : Nat} {N : Nat → Nat} {i : Nat} (e : D (256 * p + i) = N i) : qy_st D p N i = qy_st D p N (i + 1) := by
  rw [← qy_st_s e, ← qy_st_r D p N i, qa_id]
theorem qy_to (D : Nat → Nat) (p : Nat) (N : Nat → Nat) : qp_to D (qy_st D p N 256) p N := fun p' t h ht => by
  unfold qy_st
  by_cases c : p' = p
  · rw [if_pos c, if_pos (by omega), show 256 * p' + t - 256 * p = t by omega]
  · rw [if_neg c, if_neg (by omega)]
theorem qm_w {Q : (Nat → Int32) → Prop} {D N : Nat → Nat} {p i : Nat} (v : Nat) {x y : Int32} (hx : x = nI (256 * p + i)) (hb : 256 * p + i < 2 ^ 31) (hy : y = nI v) (e : v = N i) (h : Q (qa_n (qy_st D p N (i + 1)))) : ∀ b, b = upd (qa_n (qy_st D p N i)) x.toNatClampNeg y → Q b :=
  qm_t (256 * p + i) v (by rw [qy_st_s e]; exact h) hx hb hy
section
variable {he se : Nat → Int32}
theorem qy_bad {post : Int32 → Prop} {v : SY} {p : Nat} (hp : p < 3) (h : post 0) : wpY_bad post v (nI p) := br_f (nI_pos (by omega)) (br_t (nI_le (b := 2) (by omega) (by decide)) h)
theorem qy_out {post : Int32 → Prop} {v : SY} {x y : Nat} (hx : x < 16) (hy : y < 16) (h : post 0) : wpY_out post v (nI x) (nI y) := br_f (nI_pos (by omega)) (br_f (nI_nlt (a := 15) (by omega) (by decide)) (br_f (nI_pos (by omega)) (br_t (nI_le (b := 15) (by omega) (by decide)) h)))
theorem qy_bf {post : Int32 → Prop} {v : SY} {lo up : Nat} (hr : qv_rc lo up) (h : post 0) : wpY_badFrame post v (nI lo) (nI up) := by
  obtain ⟨a, b, c, d⟩ := hr
  exact br_f (nI_pos (by omega)) (br_f (nI_nlt (a := 255) (by omega) (by decide)) (br_f (nI_pos (by omega)) (br_t (nI_le (b := 255) (by omega) (by decide)) ⟨by decide, by decide, pk_lt (up / 16) (lo / 16) (fun z => absurd z (by omega)) (fun _ => ⟨by decide, by decide, pk_le (lo % 16) (up % 16) (fun _ => h) (fun z => absurd z (by omega)) (qn_rem16 (by omega)) (qn_rem16 (by omega)) (by omega) (by omega)⟩) (qn_div16 (by omega)) (qn_div16 (by omega)) (by omega) (by omega)⟩)))
theorem qy_count {post : Int32 → Prop} {D : Nat → Nat} {p : Nat} (hp : p < 3) (D01 : ∀ i, i < 768 → D i ≤ 1) (K : post (nI (qp_sum (qp_g D p) 256))) : wpY_count post (qa_n D, he, se) (nI p) := by
  refine pk_loop (fun n i s => wY_count_4 post (nI p) (qa_n D) he se n s (nI i)) (fun i s => s = nI (qp_sum (qp_g D p) i)) 256 0 0 (by omega) rfl ?_ ?_
  · intro n s I
    subst I
    exact br_t (by decide) K
  · intro n i s hi I nx
    subst I
    have d := D01 (256 * p + i) (by omega)
    refine br_f (nI_ge (b := 256) hi (by decide)) ⟨pk_in (256 * p + i) 768 (by omega) (qn_256 p i) (by decide), pk_eq (D (256 * p + i)) 0 (fun e => qm_i (nx _ ?_)) (fun e => nm_r (nI_1 _) (qm_i (nx _ ?_))) (qm_r _ rfl (qn_256 p i) (by omega)) rfl (by omega) (by omega)⟩
    · show _ = nI (_ + D (256 * p + i))
      rw [e, Nat.add_zero]
    · show _ = nI (_ + D (256 * p + i))
      rw [show D (256 * p + i) = 1 by omega]
theorem qy_hold {post : SY → Prop} {D : Nat → Nat} {p : Nat} (hp : p < 3) (D01 : ∀ i, i < 768 → D i ≤ 1) (K : ∀ he' : Nat → Int32, (∀ k, k < 256 → he' k = nI (D (256 * p + k))) → post (qa_n D, he', se)) : wpY_hold post (qa_n D, he, se) (nI p) := by
  refine pk_loop (fun n i h => wY_hold_2 post (nI p) n (nI i) (qa_n D) h se) (fun i h => ∀ k, k < i → h k = nI (D (256 * p + k))) 256 0 he (by omega) (fun k hk => absurd hk (by omega)) ?_ ?_
  · intro n h I
    exact br_t (by decide) (K h I)
  · intro n i h hi I nx
    refine br_f (nI_ge (b := 256) hi (by decide)) ⟨pk_in (256 * p + i) 768 (by omega) (qn_256 p i) (by decide), vp_in_nI hi (by decide), qm_u i (nI (D (256 * p + i))) (qm_i (nx _ fun k hk => ?_)) rfl (by omega) ?_⟩
    · by_cases c : k = i
      · rw [c, pk_us]
      · rw [pk_un c]; exact I k (by omega)
    · rw [qm_r (a := qa_n D) (256 * p + i) rfl (qn_256 p i) (by omega), qa_at, qn_nb (D01 _ (by omega))]
theorem qy_01 {D N : Nat → Nat} {p : Nat} (hp : p < 3) (D01 : ∀ i, i < 768 → D i ≤ 1) (N01 : ∀ t, t < 256 → N t ≤ 1) : ∀ i, i < 768 → qy_st D p N 256 i ≤ 1 := fun i hi => by
  unfold qy_st
  split
  · exact N01 _ (by omega)
  · exact D01 i hi
def qp_pn (D : Nat → Nat) (p lo up m : Nat) : Nat → Nat := fun t => if qp_in lo up t = 1 then (if m = 2 then 1 - D (256 * p + t) else m) else D (256 * p + t)
theorem qy_paint {post : Int32 → SY → Prop} {D : Nat → Nat} {p lo up m : Nat} (hp : p < 3) (hr : qv_rc lo up) (hm : m ≤ 2) (D01 : ∀ i, i < 768 → D i ≤ 1) (K : (∀ i, i < 768 → qy_st D p (qp_pn D p lo up m) 256 i ≤ 1) → post (nI (qp_sum (qp_g (qy_st D p (qp_pn D p lo up m) 256) p) 256)) (qa_n (qy_st D p (qp_pn D p lo up m) 256), he, se)) : wpY_paint post (qa_n D, he, se) (nI p) (nI lo) (nI up) (nI m) := by
  have fin : ∀ i, i < 768 → qy_st D p (qp_pn D p lo up m) 256 i ≤ 1 := qy_01 hp D01 fun t ht => by
    have := D01 (256 * p + t) (by omega)
    unfold qp_pn
    split
    · split <;> omega
    · omega
  unfold wpY_paint
  dsimp only
  refine qy_bad hp (br_t rfl (qy_bf hr (br_t rfl (br_f (nI_pos (by omega)) (br_t (nI_le (b := 2) hm (by decide)) ?_)))))
  have start : ∃ n, wY_paint_39 post (nI p) (nI lo) (nI up) (nI m) n (nI 0) (qa_n (qy_st D p (qp_pn D p lo up m) 0)) he se := by
    refine pk_loop (σ := Unit) (fun n i _ => wY_paint_39 post (nI p) (nI lo) (nI up) (nI m) n (nI i) (qa_n (qy_st D p (qp_pn D p lo up m) i)) he se) (fun _ _ => True) 256 0 () (by omega) trivial ?_ ?_
    · intro n _ _
      exact br_t (by decide) (qy_count hp fin (K fin))
    · intro n i _ hi _ nx
      have nx := nx () trivial
      have d := D01 (256 * p + i) (by omega)
      have vi := pk_in (x := 256 * nI p + nI i) (256 * p + i) 768 (by omega) (qn_256 p i) (by decide)
      have i01 : qp_in lo up i ≤ 1 := by unfold qp_in; split <;> omega
      have rd : qa_n (qy_st D p (qp_pn D p lo up m) i) (256 * nI p + nI i).toNatClampNeg = nI (D (256 * p + i)) := qm_r _ (congrArg nI (qy_st_r D p (qp_pn D p lo up m) i)) (qn_256 p i) (by omega)
      refine br_f (nI_ge (b := 256) hi (by decide)) (qy_inR hr.1 hr.2.1 hi (pk_eq (qp_in lo up i) 0 (fun e => qm_i ?_) (fun e => pk_eq m 2 (fun e2 => ⟨vi, pk_eq (D (256 * p + i)) 0 (fun e3 => ⟨vi, qm_w 1 (qn_256 p i) (by omega) rfl ?_ (qm_i nx)⟩) (fun e3 => ⟨vi, qm_w 0 (qn_256 p i) (by omega) rfl ?_ (qm_i nx)⟩) rd rfl (by omega) (by omega)⟩) (fun e2 => pk_eq m 1 (fun e3 => ⟨vi, qm_w 1 (qn_256 p i) (by omega) rfl ?_ (qm_i nx)⟩) (fun e3 => ⟨vi, qm_w 0 (qn_256 p i) (by omega) rfl ?_ (qm_i nx)⟩) rfl rfl (by omega) (by omega)) rfl rfl (by omega) (by omega)) rfl rfl (by omega) (by omega)))
      · rw [qy_st_k (N := qp_pn D p lo up m) (by unfold qp_pn; rw [if_neg (by omega)])]
        exact nx
      · unfold qp_pn; rw [if_pos (by omega), if_pos e2]; omega
      · unfold qp_pn; rw [if_pos (by omega), if_pos e2]; omega
      · unfold qp_pn; rw [if_pos (by omega), if_neg e2]; omega
      · unfold qp_pn; rw [if_pos (by omega), if_neg e2]; omega
  rw [qy_st_0] at start
  exact start
theorem qy_copy {post : Int32 → SY → Prop} {D : Nat → Nat} {p q : Nat} (hp : p < 3) (hq : q < 3) (D01 : ∀ i, i < 768 → D i ≤ 1) (K : (∀ i, i < 768 → qy_st D p (qp_g D q) 256 i ≤ 1) → ∀ he', post 0 (qa_n (qy_st D p (qp_g D q) 256), he', se)) : wpY_copy post (qa_n D, he, se) (nI p) (nI q) := by
  have fin : ∀ i, i < 768 → qy_st D p (qp_g D q) 256 i ≤ 1 := qy_01 hp D01 fun t ht => D01 (256 * q + t) (by omega)
  unfold wpY_copy
  dsimp only
  refine qy_bad hp (br_t rfl (qy_bad hq (br_t rfl (qy_hold hq D01 fun he1 hh => ?_))))
  have start : ∃ n, wY_copy_25 post (nI p) n (nI 0) (qa_n (qy_st D p (qp_g D q) 0)) he1 se := by
    refine pk_loop (σ := Unit) (fun n i _ => wY_copy_25 post (nI p) n (nI i) (qa_n (qy_st D p (qp_g D q) i)) he1 se) (fun _ _ => True) 256 0 () (by omega) trivial ?_ ?_
    · intro n _ _
      exact br_t (by decide) (K fin he1)
    · intro n i _ hi _ nx
      have nx := nx () trivial
      refine br_f (nI_ge (b := 256) hi (by decide)) ⟨vp_in_nI hi (by decide), pk_in (256 * p + i) 768 (by omega) (qn_256 p i) (by decide), qm_w (D (256 * q + i)) (qn_256 p i) (by omega) ?_ rfl (qm_i nx)⟩
      rw [nI_clamp (by omega), hh i hi, qn_nb (D01 _ (by omega))]
  rw [qy_st_0] at start
  exact start
def qp_jg (D : Nat → Nat) (k p q : Nat) : Nat → Nat := fun t => qp_jn k (D (256 * p + t)) (D (256 * q + t))
theorem qy_join {post : Int32 → SY → Prop} {D : Nat → Nat} {k p q : Nat} (hk : k < 4) (hp : p < 3) (hq : q < 3) (D01 : ∀ i, i < 768 → D i ≤ 1) (K : (∀ i, i < 768 → qy_st D p (qp_jg D k p q) 256 i ≤ 1) → ∀ he', post (nI (qp_sum (qp_g (qy_st D p (qp_jg D k p q) 256) p) 256)) (qa_n (qy_st D p (qp_jg D k p q) 256), he', se)) : wpY_join post (qa_n D, he, se) (nI k) (nI p) (nI q) := by
  have fin : ∀ i, i < 768 → qy_st D p (qp_jg D k p q) 256 i ≤ 1 := qy_01 hp D01 fun t ht => qp_jn_1 k hk _ (Nat.lt_succ_of_le (D01 (256 * p + t) (by omega))) _ (Nat.lt_succ_of_le (D01 (256 * q + t) (by omega)))
  unfold wpY_join
  dsimp only
  refine br_f (nI_pos (by omega)) (br_t (nI_le (b := 3) (by omega) (by decide)) (qy_bad hp (br_t rfl (qy_bad hq (br_t rfl (qy_hold hq D01 fun he1 hh => ?_))))))
  have start : ∃ n, wY_join_38 post (nI k) (nI p) n (nI 0) (qa_n (qy_st D p (qp_jg D k p q) 0)) he1 se := by
    refine pk_loop (σ := Unit) (fun n i _ => wY_join_38 post (nI k) (nI p) n (nI i) (qa_n (qy_st D p (qp_jg D k p q) i)) he1 se) (fun _ _ => True) 256 0 () (by omega) trivial ?_ ?_
    · intro n _ _
      exact br_t (by decide) (qy_count hp fin (K fin he1))
    · intro n i _ hi _ nx
      have nx := nx () trivial
      have d := D01 (256 * p + i) (by omega)
      have e := D01 (256 * q + i) (by omega)
      have vi := pk_in (x := 256 * nI p + nI i) (256 * p + i) 768 (by omega) (qn_256 p i) (by decide)
      have rd : qa_n (qy_st D p (qp_jg D k p q) i) (256 * nI p + nI i).toNatClampNeg = nI (D (256 * p + i)) := qm_r _ (congrArg nI (qy_st_r D p (qp_jg D k p q) i)) (qn_256 p i) (by omega)
      refine br_f (nI_ge (b := 256) hi (by decide)) ⟨vi, nm_r rd ⟨vp_in_nI hi (by decide), nm_r (qm_r i (hh i hi)) ?_⟩⟩
      have put : ∀ v : Nat, v ≤ 1 → v = qp_jn k (D (256 * p + i)) (D (256 * q + i)) → vp_in (256 * nI p + nI i) 768 ∧ ∀ b, b = upd (qa_n (qy_st D p (qp_jg D k p q) i)) (256 * nI p + nI i).toNatClampNeg (vp_nar .boolean (nI v)) → ∀ y, y = nI i + 1 → wY_join_38 post (nI k) (nI p) n y b he1 se := fun v hv e => ⟨vi, qm_w v (qn_256 p i) (by omega) (qn_nb hv) e (qm_i nx)⟩
      have p0 := put 0 (by omega)
      have p1 := put 1 (by omega)
      generalize D (256 * p + i) = a at *
      generalize D (256 * q + i) = b at *
      rcases (by omega : a = 0 ∨ a = 1) with rfl | rfl <;> rcases (by omega : b = 0 ∨ b = 1) with rfl | rfl <;> match k, hk with
      | 0, _ => first | exact br_t rfl (br_t rfl (p0 rfl)) | exact br_t rfl (br_f (by decide) (br_t rfl (p0 rfl))) | exact br_t rfl (br_f (by decide) (br_f (by decide) (p1 rfl)))
      | 1, _ => first | exact br_f (by decide) (br_t rfl (br_t rfl (br_t rfl (p0 rfl)))) | exact br_f (by decide) (br_t rfl (br_t rfl (br_f (by decide) (p1 rfl)))) | exact br_f (by decide) (br_t rfl (br_f (by decide) (p1 rfl)))
      | 2, _ => first | exact br_f (by decide) (br_f (by decide) (br_t rfl (br_t rfl (p0 rfl)))) | exact br_f (by decide) (br_f (by decide) (br_t rfl (br_f (by decide) (p1 rfl))))
      | 3, _ => first | exact br_f (by decide) (br_f (by decide) (br_f (by decide) (br_t rfl (p0 rfl)))) | exact br_f (by decide) (br_f (by decide) (br_f (by decide) (br_f (by decide) (br_t rfl (p1 rfl))))) | exact br_f (by decide) (br_f (by decide) (br_f (by decide) (br_f (by decide) (br_f (by decide) (p0 rfl)))))
  rw [qy_st_0] at start
  exact start
end
end
section
/-! Y: shift, zoom; tiles -/
section
variable {he se : Nat → Int32}
theorem qy_shift {post : Int32 → SY → Prop} {D : Nat → Nat} {p a b : Nat} (hp : p < 3) (ha : a ≤ 30) (hb : b ≤ 30) {dx dy : Int32} (ex : dx = nI a - 15) (ey : dy = nI b - 15) (x1 : ¬ dx < -15) (x2 : ¬ 15 < dx) (y1 : ¬ dy < -15) (y2 : dy ≤ 15) (D01 : ∀ i, i < 768 → D i ≤ 1) (K : (∀ i, i < 768 → qy_st D p (qp_sf a b (qp_g D p)) 256 i ≤ 1) → ∀ he', post (nI (qp_sum (qp_g (qy_st D p (qp_sf a b (qp_g D p)) 256) p) 256)) (qa_n (qy_st D p (qp_sf a b (qp_g D p)) 256), he', se)) : wpY_shift post (qa_n D, he, se) (nI p) dx dy := by
  have fin : ∀ i, i < 768 → qy_st D p (qp_sf a b (qp_g D p)) 256 i ≤ 1 := qy_01 hp D01 fun t ht => by
    unfold qp_sf
    split
    · exact D01 _ (by omega)
    · omega
  unfold wpY_shift
  dsimp only
  refine qy_bad hp (br_t rfl (br_f x1 (br_f x2 (br_f y1 (br_t y2 (qy_hold hp D01 fun he1 hh => ?_))))))
  have start : ∃ n, wY_shift_45 post (nI p) dx dy n (nI 0) (qa_n (qy_st D p (qp_sf a b (qp_g D p)) 0)) he1 se := by
    refine pk_loop (σ := Unit) (fun n i _ => wY_shift_45 post (nI p) dx dy n (nI i) (qa_n (qy_st D p (qp_sf a b (qp_g D p)) i)) he1 se) (fun _ _ => True) 256 0 () (by omega) trivial ?_ ?_
    · intro n _ _
      exact br_t (by decide) (qy_count hp fin (K fin he1))
    · intro n i _ hi _ nx
      have nx := nx () trivial
      have vi := pk_in (x := 256 * nI p + nI i) (256 * p + i) 768 (by omega) (qn_256 p i) (by decide)
      refine br_f (nI_ge (b := 256) hi (by decide)) ⟨by decide, nm_r (e' := nI (i / 16) - (nI a - 15)) (by rw [qn_div16 (by omega), ex]) ⟨by decide, nm_r (e' := nI (i % 16) - (nI b - 15)) (by rw [qn_rem16 (by omega), ey]) ?_⟩⟩
      have no : ¬ (a ≤ i / 16 + 15 ∧ i / 16 + 15 < a + 16 ∧ b ≤ i % 16 + 15 ∧ i % 16 + 15 < b + 16) → wY_shift_99 post (wY_shift_45 post (nI p) dx dy n) (nI p) dx dy (nI i) (nI (i / 16) - (nI a - 15)) (nI (i % 16) - (nI b - 15)) (qa_n (qy_st D p (qp_sf a b (qp_g D p)) i)) he1 se := fun c => br_t rfl ⟨vi, qm_w 0 (qn_256 p i) (by omega) rfl (by unfold qp_sf; rw [if_neg c]) (qm_i nx)⟩
      rcases qn_co (x := i / 16) (by omega) ha with ⟨a1, a2, a3⟩ | ⟨a1, a2 | ⟨a2, a3⟩⟩
      · rcases qn_co (x := i % 16) (by omega) hb with ⟨b1, b2, b3⟩ | ⟨b1, b2 | ⟨b2, b3⟩⟩
        · have d := D01 (256 * p + (16 * (i / 16 + 15 - a) + (i % 16 + 15 - b))) (by omega)
          have sf : qp_sf a b (qp_g D p) i = D (256 * p + (16 * (i / 16 + 15 - a) + (i % 16 + 15 - b))) := if_pos ⟨a1, a2, b1, b2⟩
          have ix : 16 * nI (i / 16 + 15 - a) + nI (i % 16 + 15 - b) = nI (16 * (i / 16 + 15 - a) + (i % 16 + 15 - b)) := qn_16 _ _
          rw [a3, b3]
          exact br_f (nI_pos (by omega)) (br_f (nI_ge (b := 16) (by omega) (by decide)) (br_f (nI_pos (by omega)) (br_f (nI_ge (b := 16) (by omega) (by decide)) (br_f (by decide) ⟨pk_in _ 256 (by omega) ix (by decide), pk_eq (D (256 * p + (16 * (i / 16 + 15 - a) + (i % 16 + 15 - b)))) 0 (fun e => ⟨vi, qm_w 0 (qn_256 p i) (by omega) rfl (by rw [sf, e]) (qm_i nx)⟩) (fun e => ⟨vi, qm_w 1 (qn_256 p i) (by omega) rfl (by rw [sf]; omega) (qm_i nx)⟩) (qm_r _ (hh _ (by omega)) ix (by omega)) rfl (by omega) (by omega)⟩))))
        · rw [a3] at no ⊢
          exact br_f (nI_pos (by omega)) (br_f (nI_ge (b := 16) (by omega) (by decide)) (br_t b2 (no (by omega))))
        · rw [a3] at no ⊢
          exact br_f (nI_pos (by omega)) (br_f (nI_ge (b := 16) (by omega) (by decide)) (br_f b2 (br_t b3 (no (by omega)))))
      · exact br_t a2 (no (by omega))
      · exact br_f a2 (br_t a3 (no (by omega)))
  rw [qy_st_0] at start
  exact start
def qp_zg (D : Nat → Nat) (q c : Nat) : Nat → Nat := fun t => D (256 * q + (16 * (8 * (c / 2) + t / 16 / 2) + (8 * (c % 2) + t % 16 / 2)))
theorem qy_zoom {post : Int32 → SY → Prop} {D : Nat → Nat} {p q c : Nat} (hp : p < 3) (hq : q < 3) (hc : c < 4) (D01 : ∀ i, i < 768 → D i ≤ 1) (K : (∀ i, i < 768 → qy_st D p (qp_zg D q c) 256 i ≤ 1) → ∀ he', post (nI (qp_sum (qp_g (qy_st D p (qp_zg D q c) 256) p) 256)) (qa_n (qy_st D p (qp_zg D q c) 256), he', se)) : wpY_zoom post (qa_n D, he, se) (nI p) (nI q) (nI c) := by
  have fin : ∀ i, i < 768 → qy_st D p (qp_zg D q c) 256 i ≤ 1 := qy_01 hp D01 fun t ht => D01 _ (by omega)
  unfold wpY_zoom
  dsimp only
  refine qy_bad hp (br_t rfl (qy_bad hq (br_t rfl (br_f (nI_pos (by omega)) (br_t (nI_le (b := 3) (by omega) (by decide)) (qy_hold hq D01 fun he1 hh => ?_))))))
  have start : ∃ n, wY_zoom_38 post (nI p) (nI c) n (nI 0) (qa_n (qy_st D p (qp_zg D q c) 0)) he1 se := by
    refine pk_loop (σ := Unit) (fun n i _ => wY_zoom_38 post (nI p) (nI c) n (nI i) (qa_n (qy_st D p (qp_zg D q c) i)) he1 se) (fun _ _ => True) 256 0 () (by omega) trivial ?_ ?_
    · intro n _ _
      exact br_t (by decide) (qy_count hp fin (K fin he1))
    · intro n i _ hi _ nx
      have nx := nx () trivial
      have d2 : ∀ a, a < 2 ^ 31 → nI a / 2 = nI (a / 2) := fun a ha => pk_div (d := 2) ha (by decide) (by decide)
      have r2 : nI c - nI c / 2 * 2 = nI (c % 2) := pk_rem (d := 2) (by omega) (by decide) (by decide)
      have e8 : ∀ a b, 8 * nI a + nI b = nI (8 * a + b) := fun a b => by rw [show (8 : Int32) = nI 8 from rfl, pk_mul, nI_add]
      have ix : 16 * nI (8 * (c / 2) + i / 16 / 2) + nI (8 * (c % 2) + i % 16 / 2) = nI (16 * (8 * (c / 2) + i / 16 / 2) + (8 * (c % 2) + i % 16 / 2)) := qn_16 _ _
      refine br_f (nI_ge (b := 256) hi (by decide)) ⟨by decide, by decide, by decide, nm_r (e' := nI (8 * (c / 2) + i / 16 / 2)) (by rw [d2 c (by omega), qn_div16 (by omega), d2 _ (by omega), e8]) ⟨by decide, by decide, by decide, nm_r (e' := nI (8 * (c % 2) + i % 16 / 2)) (by rw [r2, qn_rem16 (by omega), d2 _ (by omega), e8]) ⟨pk_in _ 256 (by omega) ix (by decide), pk_in (256 * p + i) 768 (by omega) (qn_256 p i) (by decide), qm_w (D (256 * q + (16 * (8 * (c / 2) + i / 16 / 2) + (8 * (c % 2) + i % 16 / 2)))) (qn_256 p i) (by omega) ?_ rfl (qm_i nx)⟩⟩⟩
      rw [ix, nI_clamp (by omega), hh _ (by omega), qn_nb (D01 _ (by omega))]
  rw [qy_st_0] at start
  exact start
/-! tiles -/
theorem qy_even {post : Int32 → Prop} {D : Nat → Nat} {p x y s : Nat} (hp : p < 3) (hx : x + s ≤ 16) (hy : y + s ≤ 16) (hs : 0 < s) (D01 : ∀ i, i < 768 → D i ≤ 1) (K1 : (∀ i j, i < s → j < s → D (256 * p + 16 * (x + i) + y + j) = D (256 * p + 16 * x + y)) → post 1) (K0 : (¬ ∀ i j, i < s → j < s → D (256 * p + 16 * (x + i) + y + j) = D (256 * p + 16 * x + y)) → post 0) : wpY_even post (qa_n D, he, se) (nI p) (nI x) (nI y) (nI s) := by
  have m16 : ∀ a, 16 * nI a = nI (16 * a) := fun a => by rw [show (16 : Int32) = nI 16 from rfl, pk_mul]
  have i1 : 256 * nI p + 16 * nI x + nI y = nI (256 * p + 16 * x + y) := by rw [m16, qn_256, nI_add]
  have i2 : ∀ i j, 256 * nI p + 16 * (nI x + nI i) + nI y + nI j = nI (256 * p + 16 * (x + i) + y + j) := fun i j => by rw [nI_add, m16, qn_256, nI_add, nI_add]
  refine pk_loop (σ := Unit) (fun n i _ => wY_even_3 post (nI p) (nI x) (nI y) (nI s) (qa_n D) he se n (nI i)) (fun i _ => ∀ a j, a < i → j < s → D (256 * p + 16 * (x + a) + y + j) = D (256 * p + 16 * x + y)) s 0 () (by omega) (fun a j h _ => absurd h (by omega)) ?_ ?_
  · intro n _ I
    exact br_t (Int32.le_refl _) (K1 I)
  · intro n i _ hi I nx
    refine br_f (nI_ge hi (by omega)) ?_
    refine pk_loop (σ := Unit) (fun n' j _ => wY_even_13 post (wY_even_3 post (nI p) (nI x) (nI y) (nI s) (qa_n D) he se n) (nI p) (nI x) (nI y) (nI s) (nI i) (qa_n D) he se n' (nI j)) (fun j _ => ∀ b, b < j → D (256 * p + 16 * (x + i) + y + b) = D (256 * p + 16 * x + y)) s 0 () (by omega) (fun b h => absurd h (by omega)) ?_ ?_
    · intro n' _ J
      refine br_t (Int32.le_refl _) (qm_i (nx () fun a j ha hj => ?_))
      by_cases c : a = i
      · rw [c]; exact J j hj
      · exact I a j (by omega) hj
    · intro n' j _ hj J nx2
      have d1 := D01 (256 * p + 16 * (x + i) + y + j) (by omega)
      have d2 := D01 (256 * p + 16 * x + y) (by omega)
      refine br_f (nI_ge hj (by omega)) ⟨pk_in _ 768 (by omega) (i2 i j) (by decide), pk_in _ 768 (by omega) i1 (by decide), pk_eq (D (256 * p + 16 * (x + i) + y + j)) (D (256 * p + 16 * x + y)) (fun e => qm_i (nx2 () fun b hb => ?_)) (fun e => K0 fun z => e (z i j hi hj)) (qm_r _ rfl (i2 i j) (by omega)) (qm_r _ rfl i1 (by omega)) (by omega) (by omega)⟩
      by_cases c : b = j
      · rw [c]; exact e
      · exact J b (by omega)
theorem qp_pw (P : Nat → Prop) (h1 : P 1) (h2 : P 2) (h4 : P 4) (h8 : P 8) (h16 : P 16) {h : Nat} (hh : h ≤ 4) : P (2 ^ h) := by
  match h, hh with
  | 0, _ => exact h1
  | 1, _ => exact h2
  | 2, _ => exact h4
  | 3, _ => exact h8
  | 4, _ => exact h16
/-- the square of the loop is the block -/
theorem qp_sq {g : Nat → Nat} {h x y : Nat} (hh : h ≤ 4) (hx : x < 16) (hy : y < 16) : qp_e g (16 * x + y) h ↔ ∀ i j, i < 2 ^ h → j < 2 ^ h → g (16 * (x / 2 ^ h * 2 ^ h + i) + (y / 2 ^ h * 2 ^ h + j)) = g (16 * (x / 2 ^ h * 2 ^ h) + y / 2 ^ h * 2 ^ h) := by
  have co : ∀ i j, i < 2 ^ h → j < 2 ^ h → 16 * (x / 2 ^ h * 2 ^ h + i) + (y / 2 ^ h * 2 ^ h + j) < 256 ∧ (16 * (x / 2 ^ h * 2 ^ h + i) + (y / 2 ^ h * 2 ^ h + j)) / 16 / 2 ^ h = x / 2 ^ h ∧ (16 * (x / 2 ^ h * 2 ^ h + i) + (y / 2 ^ h * 2 ^ h + j)) % 16 / 2 ^ h = y / 2 ^ h :=
    qp_pw (fun w => ∀ i j, i < w → j < w → 16 * (x / w * w + i) + (y / w * w + j) < 256 ∧ (16 * (x / w * w + i) + (y / w * w + j)) / 16 / w = x / w ∧ (16 * (x / w * w + i) + (y / w * w + j)) % 16 / w = y / w) (by omega) (by omega) (by omega) (by omega) (by omega) hh
  have p : 0 < 2 ^ h := Nat.pow_pos (by decide)
  have t1 : (16 * x + y) / 16 = x := by omega
  have t2 : (16 * x + y) % 16 = y := by omega
  have st : ∀ i j, i < 2 ^ h → j < 2 ^ h → qp_e g (16 * x + y) h → g (16 * (x / 2 ^ h * 2 ^ h + i) + (y / 2 ^ h * 2 ^ h + j)) = g (16 * x + y) := fun i j hi hj e => by
    obtain ⟨c1, c2, c3⟩ := co i j hi hj
    exact e _ c1 ((qp_bo_div h hh _ _ c1 (by omega)).mpr ⟨by rw [c2, t1], by rw [c3, t2]⟩)
  constructor
  · intro e i j hi hj
    have a := st i j hi hj e
    have b := st 0 0 p p e
    rw [Nat.add_zero, Nat.add_zero] at b
    rw [a, b]
  · intro e s hs hd
    obtain ⟨a, b⟩ := (qp_bo_div h hh s (16 * x + y) hs (by omega)).mp hd
    rw [t1] at a
    rw [t2] at b
    have e1 := Nat.div_add_mod' (s / 16) (2 ^ h)
    have e2 := Nat.div_add_mod' (s % 16) (2 ^ h)
    have e3 := Nat.div_add_mod' x (2 ^ h)
    have e4 := Nat.div_add_mod' y (2 ^ h)
    rw [a] at e1
    rw [b] at e2
    have f := e (s / 16 % 2 ^ h) (s % 16 % 2 ^ h) (Nat.mod_lt _ p) (Nat.mod_lt _ p)
    have k := e (x % 2 ^ h) (y % 2 ^ h) (Nat.mod_lt _ p) (Nat.mod_lt _ p)
    rw [e1, e2, show 16 * (s / 16) + s % 16 = s by omega] at f
    rw [e3, e4] at k
    rw [f, k]
theorem qy_tileSize {post : Int32 → Prop} {D : Nat → Nat} {p x y : Nat} (hp : p < 3) (hx : x < 16) (hy : y < 16) (D01 : ∀ i, i < 768 → D i ≤ 1) (K : post (nI (2 ^ qp_H (qp_g D p) (16 * x + y)))) : wpY_tileSize post (qa_n D, he, se) (nI p) (nI x) (nI y) := by
  refine pk_loop (fun n h s => wY_tileSize_6 post (nI p) (nI x) (nI y) (qa_n D) he se n s (nI (2 ^ h))) (fun h s => 1 ≤ h ∧ ∃ m, s = nI (2 ^ m) ∧ m < h ∧ qp_e (qp_g D p) (16 * x + y) m ∧ ∀ j, m < j → j < h → ¬ qp_e (qp_g D p) (16 * x + y) j) 5 1 1 (by omega) ⟨by omega, 0, rfl, by omega, ?_, fun j h1 h2 => absurd h2 (by omega)⟩ ?_ ?_
  · intro s hs e
    rw [Nat.pow_zero, Nat.div_one, Nat.div_one] at e
    have e2 := congrArg qp_po e
    rw [qp_pb s hs, qp_pb _ (by omega)] at e2
    rw [e2]
  · rintro n s ⟨-, m, rfl, hm, he, hn⟩
    refine br_t (by decide) ?_
    rw [qp_H_is (by omega) he (fun j h1 h2 => hn j h1 (by omega))] at K
    exact K
  · rintro n h s hh ⟨h1, m, rfl, hm, he, hn⟩ nx
    have pw : 2 ^ h ≤ 16 ∧ 0 < 2 ^ h ∧ x / 2 ^ h * 2 ^ h + 2 ^ h ≤ 16 ∧ y / 2 ^ h * 2 ^ h + 2 ^ h ≤ 16 := qp_pw (fun w => w ≤ 16 ∧ 0 < w ∧ x / w * w + w ≤ 16 ∧ y / w * w + w ≤ 16) (by omega) (by omega) (by omega) (by omega) (by omega) (by omega)
    obtain ⟨w1, w2, w3, w4⟩ := pw
    have db : 2 * nI (2 ^ h) = nI (2 ^ (h + 1)) := by
      rw [show (2 : Int32) = nI 2 from rfl, pk_mul, Nat.pow_succ, Nat.mul_comm]
    have dx : ∀ a, a < 16 → nI a / nI (2 ^ h) * nI (2 ^ h) = nI (a / 2 ^ h * 2 ^ h) := fun a ha => by
      rw [pk_div (by omega) w2 (by omega), pk_mul]
    have sq := qp_sq (g := qp_g D p) (h := h) (by omega) hx hy
    have eq : (∀ i j, i < 2 ^ h → j < 2 ^ h → D (256 * p + 16 * (x / 2 ^ h * 2 ^ h + i) + y / 2 ^ h * 2 ^ h + j) = D (256 * p + 16 * (x / 2 ^ h * 2 ^ h) + y / 2 ^ h * 2 ^ h)) ↔ qp_e (qp_g D p) (16 * x + y) h := by
      rw [sq]
      unfold qp_g
      simp only [Nat.add_assoc]
    refine br_f (nI_ge (b := 17) (by omega) (by decide)) ⟨nI_ne0 w2 (by omega), nI_ne0 w2 (by omega), ?_⟩
    rw [dx x hx, dx y hy]
    refine qy_even hp w3 w4 w2 D01 (fun e => br_f (by decide) (nm_r db (nx _ ⟨by omega, h, rfl, by omega, eq.mp e, fun j a b => absurd b (by omega)⟩))) (fun e => br_t rfl (nm_r db (nx _ ⟨by omega, m, rfl, by omega, he, fun j a b => ?_⟩)))
    by_cases c : j = h
    · rw [c]; exact fun z => e (eq.mpr z)
    · exact hn j a (by omega)
theorem qy_tally {post : Int32 → Prop} {D : Nat → Nat} {p z : Nat} (hp : p < 3) (hz : z < 2 ^ 31) (D01 : ∀ i, i < 768 → D i ≤ 1) (K : post (nI (qp_tal (qp_g D p) z))) : wpY_tally post (qa_n D, he, se) (nI p) (nI z) := by
  refine pk_loop (fun n i s => wY_tally_5 post (nI p) (nI z) (qa_n D) he se n s (nI i)) (fun i s => s = nI (qp_sum (fun t => if t / 16 % 2 ^ qp_H (qp_g D p) t = 0 ∧ t % 16 % 2 ^ qp_H (qp_g D p) t = 0 ∧ (z = 0 ∨ z = 2 ^ qp_H (qp_g D p) t) then 1 else 0) i)) 256 0 0 (by omega) rfl ?_ ?_
  · intro n s I
    subst I
    exact br_t (by decide) K
  · intro n i s hi I nx
    subst I
    have hl := qp_H_le (qp_g D p) i
    have pw : 2 ^ qp_H (qp_g D p) i ≤ 16 ∧ 0 < 2 ^ qp_H (qp_g D p) i := qp_pw (fun w => w ≤ 16 ∧ 0 < w) (by omega) (by omega) (by omega) (by omega) (by omega) hl
    obtain ⟨w1, w2⟩ := pw
    have rm : ∀ a, a < 16 → nI a - nI a / nI (2 ^ qp_H (qp_g D p) i) * nI (2 ^ qp_H (qp_g D p) i) = nI (a % 2 ^ qp_H (qp_g D p) i) := fun a ha => pk_rem (by omega) w2 (by omega)
    have m1 : i / 16 % 2 ^ qp_H (qp_g D p) i ≤ i / 16 := Nat.mod_le _ _
    have m2 : i % 16 % 2 ^ qp_H (qp_g D p) i ≤ i % 16 := Nat.mod_le _ _
    refine br_f (nI_ge (b := 256) hi (by decide)) ⟨by decide, by decide, ?_⟩
    rw [qn_div16 (by omega), show nI i - nI (i / 16) * 16 = nI (i % 16) by rw [← qn_div16 (by omega)]; exact qn_rem16 (by omega)]
    refine qy_tileSize hp (by omega) (by omega) D01 ?_
    rw [show 16 * (i / 16) + i % 16 = i by omega]
    have n0 : ¬ nI (2 ^ qp_H (qp_g D p) i) = 0 := nI_ne0 w2 (by omega)
    have val : qp_sum (fun t => if t / 16 % 2 ^ qp_H (qp_g D p) t = 0 ∧ t % 16 % 2 ^ qp_H (qp_g D p) t = 0 ∧ (z = 0 ∨ z = 2 ^ qp_H (qp_g D p) t) then 1 else 0) (i + 1) = qp_sum (fun t => if t / 16 % 2 ^ qp_H (qp_g D p) t = 0 ∧ t % 16 % 2 ^ qp_H (qp_g D p) t = 0 ∧ (z = 0 ∨ z = 2 ^ qp_H (qp_g D p) t) then 1 else 0) i + if i / 16 % 2 ^ qp_H (qp_g D p) i = 0 ∧ i % 16 % 2 ^ qp_H (qp_g D p) i = 0 ∧ (z = 0 ∨ z = 2 ^ qp_H (qp_g D p) i) then 1 else 0 := rfl
    generalize qp_sum (fun t => if t / 16 % 2 ^ qp_H (qp_g D p) t = 0 ∧ t % 16 % 2 ^ qp_H (qp_g D p) t = 0 ∧ (z = 0 ∨ z = 2 ^ qp_H (qp_g D p) t) then 1 else 0) i = S at *
    have no : ¬ (i / 16 % 2 ^ qp_H (qp_g D p) i = 0 ∧ i % 16 % 2 ^ qp_H (qp_g D p) i = 0 ∧ (z = 0 ∨ z = 2 ^ qp_H (qp_g D p) i)) → wY_tally_5 post (nI p) (nI z) (qa_n D) he se n (nI S) (nI (i + 1)) := fun c => nx _ (by rw [val, if_neg c, Nat.add_zero])
    have ye : (i / 16 % 2 ^ qp_H (qp_g D p) i = 0 ∧ i % 16 % 2 ^ qp_H (qp_g D p) i = 0 ∧ (z = 0 ∨ z = 2 ^ qp_H (qp_g D p) i)) → wY_tally_5 post (nI p) (nI z) (qa_n D) he se n (nI (S + 1)) (nI (i + 1)) := fun c => nx _ (by rw [val, if_pos c])
    refine ⟨by decide, n0, ?_⟩
    rw [rm _ (by omega), rm _ (by omega)]
    refine pk_eq (i / 16 % 2 ^ qp_H (qp_g D p) i) 0 (fun e1 => ⟨by decide, n0, pk_eq (i % 16 % 2 ^ qp_H (qp_g D p) i) 0 (fun e2 => br_f (by decide) (pk_eq z 0 (fun e3 => nm_r (nI_1 _) (qm_i (ye ⟨e1, e2, Or.inl e3⟩))) (fun e3 => pk_eq z (2 ^ qp_H (qp_g D p) i) (fun e4 => nm_r (nI_1 _) (qm_i (ye ⟨e1, e2, Or.inr e4⟩))) (fun e4 => qm_i (no fun w => w.2.2.elim e3 e4)) rfl rfl hz (by omega)) rfl rfl hz (by omega))) (fun e2 => br_t rfl (qm_i (no fun w => e2 w.2.1))) rfl rfl (by omega) (by omega)⟩) (fun e1 => br_t rfl (qm_i (no fun w => e1 w.1))) rfl rfl (by omega) (by omega)
end
end
section
/-! Y: turn and the reading methods -/
section
variable {he se : Nat → Int32}
def qp_tg (D : Nat → Nat) (k p : Nat) : Nat → Nat := fun t => D (256 * p + qp_iv k t)
theorem qy_turn {post : Int32 → SY → Prop} {D : Nat → Nat} {k p : Nat} (hk : k < 3) (hp : p < 3) (D01 : ∀ i, i < 768 → D i ≤ 1) (K : ∀ D', qp_to D D' p (qp_tg D k p) → (∀ i, i < 768 → D' i ≤ 1) → ∀ he', post (nI (qp_tal (qp_g D' p) 0)) (qa_n D', he', se)) : wpY_turn post (qa_n D, he, se) (nI k) (nI p) := by
  unfold wpY_turn
  dsimp only
  refine br_f (nI_pos (by omega)) (br_t (nI_le (b := 2) (by omega) (by decide)) (qy_bad hp (br_t rfl (qy_hold hp D01 fun he1 hh => ?_))))
  refine pk_loop (fun n i d => wY_turn_29 post (nI k) (nI p) n (nI i) d he1 se) (fun i d => ∃ D' : Nat → Nat, d = qa_n D' ∧ (∀ j, j < 768 → D' j ≤ 1) ∧ (∀ p' t, p' < 3 → t < 256 → p' ≠ p → D' (256 * p' + t) = D (256 * p' + t)) ∧ ∀ t, t < 256 → qp_iv k t < i → D' (256 * p + t) = D (256 * p + qp_iv k t)) 256 0 (qa_n D) (by omega) ⟨D, rfl, D01, fun _ _ _ _ _ => rfl, fun t _ h => absurd h (by omega)⟩ ?_ ?_
  · rintro n d ⟨D', rfl, h1, h2, h3⟩
    refine br_t (by decide) (qy_tally (z := 0) hp (by decide) h1 (K D' (fun p' t h ht => ?_) h1 he1))
    by_cases c : p' = p
    · rw [if_pos c, c]; exact h3 t ht (qp_mv_f k hk t ht).2.1
    · rw [if_neg c]; exact h2 p' t h ht c
  · rintro n i d hi ⟨D', rfl, h1, h2, h3⟩ nx
    obtain ⟨m1, m2, m3, m4⟩ := qp_mv_f k hk i hi
    have st : ∀ z : Int32, z = nI (qp_mv k i) → wY_turn_93 post (wY_turn_29 post (nI k) (nI p) n) (nI k) (nI p) (nI i) z (qa_n D') he1 se := by
      intro z hz
      subst hz
      refine And.intro (vp_in_nI hi (by decide)) ⟨pk_in (256 * p + qp_mv k i) 768 (by omega) (qn_256 _ _) (by decide), qm_t (256 * p + qp_mv k i) (D (256 * p + i)) (qm_i (nx _ ⟨_, rfl, fun j hj => ?_, fun p' t h ht c => ?_, fun t ht hl => ?_⟩)) (qn_256 _ _) (by omega) ?_⟩
      · unfold qa_u
        split
        · exact D01 _ (by omega)
        · exact h1 j hj
      · rw [qa_un _ (by omega)]; exact h2 p' t h ht c
      · by_cases c : t = qp_mv k i
        · rw [c, qa_us, m3]
        · rw [qa_un _ (by omega)]
          refine h3 t ht ?_
          have : qp_iv k t ≠ i := fun z => c (by rw [← z, (qp_mv_f k hk t ht).2.2.2])
          omega
      · rw [nI_clamp (by omega), hh i hi, qn_nb (D01 _ (by omega))]
    have t0 : ∀ t, t < 256 → 16 * nI (t % 16) + 15 - nI (t / 16) = nI (qp_mv 0 t) := by decide +kernel
    have t1 : ∀ t, t < 256 → 16 * (15 - nI (t / 16)) + nI (t % 16) = nI (qp_mv 1 t) := by decide +kernel
    have t2 : ∀ t, t < 256 → 16 * nI (t % 16) + nI (t / 16) = nI (qp_mv 2 t) := by decide +kernel
    refine br_f (nI_ge (b := 256) hi (by decide)) ⟨by decide, nm_r (qn_div16 (by omega)) ⟨by decide, nm_r (qn_rem16 (by omega)) ?_⟩⟩
    match k, hk with
    | 0, _ => exact br_t rfl (st _ (t0 i hi))
    | 1, _ => exact br_f (by decide) (br_t rfl (st _ (t1 i hi)))
    | 2, _ => exact br_f (by decide) (br_f (by decide) (st _ (t2 i hi)))
theorem qy_at {post : Int32 → Prop} {D : Nat → Nat} {p i j : Nat} (hp : p < 3) (hi : i < 16) (hj : j < 16) (D01 : ∀ i, i < 768 → D i ≤ 1) (K : post (nI (D (256 * p + (16 * i + j))))) : wpY_at post (qa_n D, he, se) (nI p) (nI i) (nI j) := by
  have ix : 256 * nI p + 16 * nI i + nI j = nI (256 * p + (16 * i + j)) := by
    rw [show (16 : Int32) = nI 16 from rfl, pk_mul, qn_256, nI_add, Nat.add_assoc]
  have d := D01 (256 * p + (16 * i + j)) (by omega)
  unfold wpY_at
  dsimp only
  refine qy_bad hp (br_t rfl (qy_out hi hj (br_t rfl ⟨pk_in _ 768 (by omega) ix (by decide), pk_eq (D (256 * p + (16 * i + j))) 0 (fun e => ?_) (fun e => ?_) (qm_r _ rfl ix (by omega)) rfl (by omega) (by omega)⟩)))
  · rw [e] at K; exact K
  · rw [show D (256 * p + (16 * i + j)) = 1 by omega] at K; exact K
theorem qy_area {post : Int32 → Prop} {D : Nat → Nat} {p : Nat} (hp : p < 3) (D01 : ∀ i, i < 768 → D i ≤ 1) (K : post (nI (qp_sum (qp_g D p) 256))) : wpY_area post (qa_n D, he, se) (nI p) := by
  unfold wpY_area
  dsimp only
  exact qy_bad hp (br_t rfl (qy_count hp D01 K))
theorem qy_areaIn {post : Int32 → Prop} {D : Nat → Nat} {p lo up : Nat} (hp : p < 3) (hr : qv_rc lo up) (D01 : ∀ i, i < 768 → D i ≤ 1) (K : post (nI (qp_sum (fun t => if qp_in lo up t = 1 then D (256 * p + t) else 0) 256))) : wpY_areaIn post (qa_n D, he, se) (nI p) (nI lo) (nI up) := by
  unfold wpY_areaIn
  dsimp only
  refine qy_bad hp (br_t rfl (qy_bf hr (br_t rfl ?_)))
  refine pk_loop (fun n i s => wY_areaIn_28 post (nI p) (nI lo) (nI up) (qa_n D) he se n s (nI i)) (fun i s => s = nI (qp_sum (fun t => if qp_in lo up t = 1 then D (256 * p + t) else 0) i)) 256 0 0 (by omega) rfl ?_ ?_
  · intro n s I
    subst I
    exact br_t (by decide) K
  · intro n i s hi I nx
    subst I
    have d := D01 (256 * p + i) (by omega)
    have i01 : qp_in lo up i ≤ 1 := by unfold qp_in; split <;> omega
    refine br_f (nI_ge (b := 256) hi (by decide)) (qy_inR hr.1 hr.2.1 hi (pk_eq (qp_in lo up i) 0 (fun e => qm_i (nx _ ?_)) (fun e => ⟨pk_in (256 * p + i) 768 (by omega) (qn_256 p i) (by decide), pk_eq (D (256 * p + i)) 0 (fun e2 => qm_i (nx _ ?_)) (fun e2 => nm_r (nI_1 _) (qm_i (nx _ ?_))) (qm_r _ rfl (qn_256 p i) (by omega)) rfl (by omega) (by omega)⟩) rfl rfl (by omega) (by omega)))
    · show _ = nI (_ + if qp_in lo up i = 1 then D (256 * p + i) else 0)
      rw [if_neg (by omega)]; rfl
    · show _ = nI (_ + if qp_in lo up i = 1 then D (256 * p + i) else 0)
      rw [if_pos (by omega), e2]; rfl
    · show _ = nI (_ + if qp_in lo up i = 1 then D (256 * p + i) else 0)
      rw [if_pos (by omega), show D (256 * p + i) = 1 by omega]
theorem qy_tiles {post : Int32 → Prop} {D : Nat → Nat} {p : Nat} (hp : p < 3) (D01 : ∀ i, i < 768 → D i ≤ 1) (K : post (nI (qp_tal (qp_g D p) 0))) : wpY_tiles post (qa_n D, he, se) (nI p) := by
  unfold wpY_tiles
  dsimp only
  exact qy_bad hp (br_t rfl (qy_tally (z := 0) hp (by decide) D01 K))
theorem qy_tilesOf {post : Int32 → Prop} {D : Nat → Nat} {p h : Nat} (hp : p < 3) (hh : h ≤ 4) (D01 : ∀ i, i < 768 → D i ≤ 1) (K : post (nI (qp_tal (qp_g D p) (2 ^ h)))) : wpY_tilesOf post (qa_n D, he, se) (nI p) (nI (2 ^ h)) := by
  have w : 2 ^ h < 2 ^ 31 := qp_pw (fun w => w < 2 ^ 31) (by decide) (by decide) (by decide) (by decide) (by decide) hh
  have t : wY_tilesOf_42 post (nI p) (nI (2 ^ h)) (qa_n D) he se := qy_tally hp w D01 K
  unfold wpY_tilesOf
  dsimp only
  refine qy_bad hp (br_t rfl ?_)
  match h, hh with
  | 0, _ => exact br_t (by decide) t
  | 1, _ => exact br_f (by decide) (br_t (by decide) t)
  | 2, _ => exact br_f (by decide) (br_f (by decide) (br_t (by decide) t))
  | 3, _ => exact br_f (by decide) (br_f (by decide) (br_f (by decide) (br_t (by decide) t)))
  | 4, _ => exact br_f (by decide) (br_f (by decide) (br_f (by decide) (br_f (by decide) (br_t (by decide) t))))
theorem qy_tilesOf_0 {post : Int32 → Prop} {v : SY} {p : Nat} (hp : p < 3) {z : Int32} (hz : ∀ h, h ≤ 4 → ¬ z = nI (2 ^ h)) (K : post (-2)) : wpY_tilesOf post v (nI p) z := by
  obtain ⟨d, e, s⟩ := v
  unfold wpY_tilesOf
  dsimp only
  exact qy_bad hp (br_t rfl (br_f (hz 0 (by omega)) (br_f (hz 1 (by omega)) (br_f (hz 2 (by omega)) (br_f (hz 3 (by omega)) (br_f (hz 4 (by omega)) K))))))
theorem qy_tileAt {post : Int32 → Prop} {D : Nat → Nat} {p i j : Nat} (hp : p < 3) (hi : i < 16) (hj : j < 16) (D01 : ∀ i, i < 768 → D i ≤ 1) (K : post (nI (2 ^ qp_H (qp_g D p) (16 * i + j)))) : wpY_tileAt post (qa_n D, he, se) (nI p) (nI i) (nI j) := by
  unfold wpY_tileAt
  dsimp only
  exact qy_bad hp (br_t rfl (qy_out hi hj (br_t rfl (qy_tileSize hp hi hj D01 K))))
theorem qy_same {post : Int32 → Prop} {D : Nat → Nat} {p q : Nat} (hp : p < 3) (hq : q < 3) (D01 : ∀ i, i < 768 → D i ≤ 1) (K1 : (∀ t, t < 256 → D (256 * p + t) = D (256 * q + t)) → post 1) (K0 : (¬ ∀ t, t < 256 → D (256 * p + t) = D (256 * q + t)) → post 0) : wpY_same post (qa_n D, he, se) (nI p) (nI q) := by
  unfold wpY_same
  dsimp only
  refine qy_bad hp (br_t rfl (qy_bad hq (br_t rfl ?_)))
  refine pk_loop (σ := Unit) (fun n i _ => wY_same_20 post (nI p) (nI q) (qa_n D) he se n (nI i)) (fun i _ => ∀ t, t < i → D (256 * p + t) = D (256 * q + t)) 256 0 () (by omega) (fun t h => absurd h (by omega)) ?_ ?_
  · intro n _ I
    exact br_t (by decide) (K1 I)
  · intro n i _ hi I nx
    have d1 := D01 (256 * p + i) (by omega)
    have d2 := D01 (256 * q + i) (by omega)
    refine br_f (nI_ge (b := 256) hi (by decide)) ⟨pk_in (256 * p + i) 768 (by omega) (qn_256 p i) (by decide), pk_in (256 * q + i) 768 (by omega) (qn_256 q i) (by decide), pk_eq (D (256 * p + i)) (D (256 * q + i)) (fun e => qm_i (nx () fun t ht => ?_)) (fun e => K0 fun z => e (z i hi)) (qm_r _ rfl (qn_256 p i) (by omega)) (qm_r _ rfl (qn_256 q i) (by omega)) (by omega) (by omega)⟩
    by_cases c : t = i
    · rw [c]; exact e
    · exact I t (by omega)
theorem qy_within {post : Int32 → Prop} {D : Nat → Nat} {p q : Nat} (hp : p < 3) (hq : q < 3) (D01 : ∀ i, i < 768 → D i ≤ 1) (K1 : (∀ t, t < 256 → D (256 * p + t) ≤ D (256 * q + t)) → post 1) (K0 : (¬ ∀ t, t < 256 → D (256 * p + t) ≤ D (256 * q + t)) → post 0) : wpY_within post (qa_n D, he, se) (nI p) (nI q) := by
  unfold wpY_within
  dsimp only
  refine qy_bad hp (br_t rfl (qy_bad hq (br_t rfl ?_)))
  refine pk_loop (σ := Unit) (fun n i _ => wY_within_20 post (nI p) (nI q) (qa_n D) he se n (nI i)) (fun i _ => ∀ t, t < i → D (256 * p + t) ≤ D (256 * q + t)) 256 0 () (by omega) (fun t h => absurd h (by omega)) ?_ ?_
  · intro n _ I
    exact br_t (by decide) (K1 I)
  · intro n i _ hi I nx
    have d1 := D01 (256 * p + i) (by omega)
    have d2 := D01 (256 * q + i) (by omega)
    have go : D (256 * p + i) ≤ D (256 * q + i) → wY_within_20 post (nI p) (nI q) (qa_n D) he se n (nI (i + 1)) := fun e => nx () fun t ht => by
      by_cases c : t = i
      · rw [c]; exact e
      · exact I t (by omega)
    exact br_f (nI_ge (b := 256) hi (by decide)) ⟨pk_in (256 * p + i) 768 (by omega) (qn_256 p i) (by decide), pk_eq (D (256 * p + i)) 0 (fun e => qm_i (go (by omega))) (fun e => ⟨pk_in (256 * q + i) 768 (by omega) (qn_256 q i) (by decide), pk_eq (D (256 * q + i)) 0 (fun e2 => K0 fun z => by have := z i hi; omega) (fun e2 => qm_i (go (by omega))) (qm_r _ rfl (qn_256 q i) (by omega)) rfl (by omega) (by omega)⟩) (qm_r _ rfl (qn_256 p i) (by omega)) rfl (by omega) (by omega)⟩
theorem qy_border {post : Int32 → Prop} {D : Nat → Nat} {p : Nat} (hp : p < 3) (D01 : ∀ i, i < 768 → D i ≤ 1) (K : post (nI (qp_bd (qp_g D p)))) : wpY_border post (qa_n D, he, se) (nI p) := by
  unfold wpY_border
  dsimp only
  refine qy_bad hp (br_t rfl ?_)
  refine pk_loop (fun n i s => wY_border_14 post (nI p) (qa_n D) he se n s (nI i)) (fun i s => s = nI (qp_sum (fun t => qp_b1 (qp_g D p) t + qp_b2 (qp_g D p) t) i)) 256 0 0 (by omega) rfl ?_ ?_
  · intro n s I
    subst I
    exact br_t (by decide) K
  · intro n i s hi I nx
    subst I
    have d := D01 (256 * p + i) (by omega)
    have x16 : 256 * nI p + nI i + 16 = nI (256 * p + (i + 16)) := by rw [qn_256]; exact (nI_add _ 16).trans (by rw [Nat.add_assoc])
    have x1 : 256 * nI p + nI i + 1 = nI (256 * p + (i + 1)) := by rw [qn_256]; exact (nI_add _ 1).trans (by rw [Nat.add_assoc])
    have val : qp_sum (fun t => qp_b1 (qp_g D p) t + qp_b2 (qp_g D p) t) (i + 1) = qp_sum (fun t => qp_b1 (qp_g D p) t + qp_b2 (qp_g D p) t) i + (qp_b1 (qp_g D p) i + qp_b2 (qp_g D p) i) := rfl
    generalize qp_sum (fun t => qp_b1 (qp_g D p) t + qp_b2 (qp_g D p) t) i = S at *
    have rt : ∀ s1, s1 = S + qp_b2 (qp_g D p) i → wY_border_65 post (wY_border_14 post (nI p) (qa_n D) he se n) (nI p) (nI s1) (nI i) (nI (D (256 * p + i))) (qa_n D) he se := by
      intro s1 e
      refine And.intro (by decide) (pk_le 15 (i % 16) (fun h => qm_i (nx _ ?_)) (fun h => ⟨pk_in _ 768 (by omega) x1 (by decide), pk_eq (D (256 * p + i)) (D (256 * p + (i + 1))) (fun e2 => qm_i (nx _ ?_)) (fun e2 => nm_r (nI_1 _) (qm_i (nx _ ?_))) rfl (qm_r _ rfl x1 (by omega)) (by omega) (by have := D01 (256 * p + (i + 1)) (by omega); omega)⟩) rfl (qn_rem16 (by omega)) (by omega) (by omega))
      · rw [val, e, show qp_b1 (qp_g D p) i = 0 from if_neg (by omega), Nat.zero_add]
      · rw [val, e, show qp_b1 (qp_g D p) i = 0 from if_neg (fun w => w.2 e2), Nat.zero_add]
      · rw [val, e, show qp_b1 (qp_g D p) i = 1 from if_pos ⟨h, e2⟩]
        exact congrArg nI (by omega)
    refine br_f (nI_ge (b := 256) hi (by decide)) ⟨pk_in (256 * p + i) 768 (by omega) (qn_256 p i) (by decide), nm_r (e' := nI (D (256 * p + i))) (qm_r _ rfl (qn_256 p i) (by omega)) (pk_le 240 i (fun h => rt _ ?_) (fun h => ⟨pk_in _ 768 (by omega) x16 (by decide), pk_eq (D (256 * p + i)) (D (256 * p + (i + 16))) (fun e2 => rt _ ?_) (fun e2 => nm_r (nI_1 _) (rt _ ?_)) rfl (qm_r _ rfl x16 (by omega)) (by omega) (by have := D01 (256 * p + (i + 16)) (by omega); omega)⟩) rfl rfl (by omega) (by omega))⟩
    · rw [show qp_b2 (qp_g D p) i = 0 from if_neg (by omega), Nat.add_zero]
    · rw [show qp_b2 (qp_g D p) i = 0 from if_neg (fun w => w.2 e2), Nat.add_zero]
    · rw [show qp_b2 (qp_g D p) i = 1 from if_pos ⟨h, e2⟩]
/-- the first set point behind 'after', from i on -/
theorem qy_next12 {post : Int32 → Prop} {D : Nat → Nat} {p i : Nat} {af : Int32} (hp : p < 3) (D01 : ∀ i, i < 768 → D i ≤ 1) (lo : ∀ t, t < i → nI t ≤ af) (hi : i ≤ 256) (gr : ∀ t, i ≤ t → t < 256 → ¬ nI t ≤ af) (K1 : ∀ t, i ≤ t → t < 256 → D (256 * p + t) = 1 → (∀ s, i ≤ s → s < t → D (256 * p + s) = 0) → post (nI t)) (K0 : (∀ s, i ≤ s → s < 256 → D (256 * p + s) = 0) → post (-2)) : wpY_next post (qa_n D, he, se) (nI p) af := by
  unfold wpY_next
  dsimp only
  refine qy_bad hp (br_t rfl ?_)
  refine pk_loop (σ := Unit) (fun n j _ => wY_next_12 post (nI p) af (qa_n D) he se n (nI j)) (fun j _ => ∀ s, i ≤ s → s < j → D (256 * p + s) = 0) 256 0 () (by omega) (fun s _ h => absurd h (by omega)) ?_ ?_
  · intro n _ I
    exact br_t (by decide) (K0 I)
  · intro n j _ hj I nx
    have d := D01 (256 * p + j) (by omega)
    refine br_f (nI_ge (b := 256) hj (by decide)) ?_
    by_cases c : j < i
    · exact br_t (lo j c) (qm_i (nx () fun s h1 h2 => absurd h2 (by omega)))
    · refine br_f (gr j (by omega) hj) ⟨pk_in (256 * p + j) 768 (by omega) (qn_256 p j) (by decide), pk_eq (D (256 * p + j)) 0 (fun e => qm_i (nx () fun s h1 h2 => ?_)) (fun e => K1 j (by omega) hj (by omega) I) (qm_r _ rfl (qn_256 p j) (by omega)) rfl (by omega) (by omega)⟩
      by_cases c2 : s = j
      · rw [c2]; exact e
      · exact I s h1 (by omega)
end
end
section
/-! Y: regions -/
def qp_met (S : Nat → Nat) (k : Nat) : Prop := (16 ≤ k ∧ S (k - 16) = 1) ∨ (k < 240 ∧ S (k + 16) = 1) ∨ (0 < k % 16 ∧ S (k - 1) = 1) ∨ (k % 16 < 15 ∧ S (k + 1) = 1)
theorem qp_met_nb {S : Nat → Nat} {k : Nat} (hk : k < 256) : qp_met S k ↔ ∃ y, y < 256 ∧ qp_nb y k ∧ S y = 1 := by
  unfold qp_met qp_nb qp_ad
  constructor
  · rintro (⟨a, b⟩ | ⟨a, b⟩ | ⟨a, b⟩ | ⟨a, b⟩)
    · exact ⟨k - 16, by omega, Or.inl (Or.inr (by omega)), b⟩
    · exact ⟨k + 16, by omega, Or.inr (Or.inr (by omega)), b⟩
    · exact ⟨k - 1, by omega, Or.inl (Or.inl (by omega)), b⟩
    · exact ⟨k + 1, by omega, Or.inr (Or.inl (by omega)), b⟩
  · rintro ⟨y, hy, (⟨a, b⟩ | ⟨a, b⟩) | (⟨a, b⟩ | ⟨a, b⟩), c⟩
    · have : k - 1 = y := by omega
      exact Or.inr (Or.inr (Or.inl ⟨by omega, this ▸ c⟩))
    · have : k - 16 = y := by omega
      exact Or.inl ⟨by omega, this ▸ c⟩
    · have : k + 1 = y := by omega
      exact Or.inr (Or.inr (Or.inr ⟨by omega, this ▸ c⟩))
    · have : k + 16 = y := by omega
      exact Or.inr (Or.inl ⟨by omega, this ▸ c⟩)
section
variable {de he se : Nat → Int32}
theorem qy_met {post : Int32 → Prop} {S : Nat → Nat} {k : Nat} (hk : k < 256) (S01 : ∀ x, x < 256 → S x ≤ 1) (K1 : qp_met S k → post 1) (K0 : ¬ qp_met S k → post 0) : wpY_met post (de, he, qa_n S) (nI k) := by
  have rd : ∀ (x : Int32) (j : Nat), x = nI j → j < 256 → ∀ A B : Prop, (S j = 0 → A) → (S j = 1 → B) → (qa_n S x.toNatClampNeg = 0 → A) ∧ (¬ qa_n S x.toNatClampNeg = 0 → B) := fun x j e hj A B a b => by
    have := S01 j hj
    exact pk_eq (S j) 0 a (fun z => b (by omega)) (qm_r j rfl e (by omega)) rfl (by omega) (by omega)
  have h57 : ¬ (16 ≤ k ∧ S (k - 16) = 1) → ¬ (k < 240 ∧ S (k + 16) = 1) → ¬ (0 < k % 16 ∧ S (k - 1) = 1) → wY_met_57 post (nI k) de he (qa_n S) := fun a b c =>
    And.intro (by decide) (pk_le 15 (k % 16) (fun h => K0 (by rintro (z | z | z | z); exact a z; exact b z; exact c z; omega)) (fun h => ⟨pk_in (k + 1) 256 (by omega) (nI_1 k) (by decide), rd _ (k + 1) (nI_1 k) (by omega) _ _ (fun z => K0 (by rintro (w | w | w | w); exact a w; exact b w; exact c w; omega)) (fun z => K1 (Or.inr (Or.inr (Or.inr ⟨h, z⟩))))⟩) rfl (qn_rem16 (by omega)) (by omega) (by omega))
  have h39 : ¬ (16 ≤ k ∧ S (k - 16) = 1) → ¬ (k < 240 ∧ S (k + 16) = 1) → wY_met_39 post (nI k) de he (qa_n S) := fun a b =>
    And.intro (by decide) (pk_le (k % 16) 0 (fun h => h57 a b (by omega)) (fun h => ⟨pk_in (k - 1) 256 (by omega) (pk_sub (b := 1) (by omega)) (by decide), rd _ (k - 1) (pk_sub (b := 1) (by omega)) (by omega) _ _ (fun z => h57 a b (by omega)) (fun z => K1 (Or.inr (Or.inr (Or.inl ⟨h, z⟩))))⟩) (qn_rem16 (by omega)) rfl (by omega) (by omega))
  have h18 : ¬ (16 ≤ k ∧ S (k - 16) = 1) → wY_met_18 post (nI k) de he (qa_n S) := fun a =>
    pk_le 240 k (fun h => h39 a (by omega)) (fun h => ⟨pk_in (k + 16) 256 (by omega) (nI_add k 16) (by decide), rd _ (k + 16) (nI_add k 16) (by omega) _ _ (fun z => h39 a (by omega)) (fun z => K1 (Or.inr (Or.inl ⟨h, z⟩)))⟩) rfl rfl (by omega) (by omega)
  exact pk_le k 15 (fun h => h18 (by omega)) (fun h => ⟨pk_in (k - 16) 256 (by omega) (pk_sub (b := 16) (by omega)) (by decide), rd _ (k - 16) (pk_sub (b := 16) (by omega)) (by omega) _ _ (fun z => h18 (by omega)) (fun z => K1 (Or.inl ⟨by omega, z⟩))⟩) rfl rfl (by omega) (by omega)
/-- what is seen: 0 or 1, within Q, more than S0 -/
def qp_sn (Q : Nat → Prop) (S0 S : Nat → Nat) : Prop := (∀ x, x < 256 → S x ≤ 1) ∧ (∀ x, x < 256 → S x = 1 → Q x) ∧ ∀ x, x < 256 → S0 x = 1 → S x = 1
def qp_bad (g S : Nat → Nat) (k : Nat) : Prop := g k = 1 ∧ S k = 0 ∧ qp_met S k
def qp_cs1 (S : Nat → Nat) : Nat := qp_cn (fun x => S x == 1) 256
theorem qy_spread20 {post : SY → Prop} {J : Int32 → Int32 → (Nat → Int32) → (Nat → Int32) → (Nat → Int32) → Prop} {D : Nat → Nat} {p : Nat} {x3 : Int32} {Q : Nat → Prop} {S0 : Nat → Nat} (hp : p < 3) (D01 : ∀ i, i < 768 → D i ≤ 1) (cQ : ∀ x y, x < 256 → y < 256 → Q x → qp_g D p y = 1 → qp_nb x y → Q y) (I0 : qp_sn Q S0 S0) (H1 : ∀ S, qp_sn Q S0 S → qp_cs1 S0 + 1 ≤ qp_cs1 S → J 1 (x3 + 1) (qa_n D) he (qa_n S)) (H0 : (∀ k, k < 256 → ¬ qp_bad (qp_g D p) S0 k) → J 0 (x3 + 1) (qa_n D) he (qa_n S0)) : ∃ n, wY_spread_20 post J (nI p) x3 n 0 0 (qa_n D) he (qa_n S0) := by
  refine pk_loop (σ := Int32 × (Nat → Int32)) (fun n i s => wY_spread_20 post J (nI p) x3 n s.1 (nI i) (qa_n D) he s.2) (fun i s => ∃ S, s.2 = qa_n S ∧ qp_sn Q S0 S ∧ ((s.1 = 0 ∧ S = S0 ∧ ∀ k, k < i → k < 256 → ¬ qp_bad (qp_g D p) S0 k) ∨ (s.1 = 1 ∧ qp_cs1 S0 + 1 ≤ qp_cs1 S))) 512 0 (0, qa_n S0) (by omega) ⟨S0, rfl, I0, Or.inl ⟨rfl, rfl, fun k h => absurd h (by omega)⟩⟩ ?_ ?_
  · rintro n ⟨s1, s2⟩ ⟨S, rfl, I, h⟩
    refine br_t (by decide) (nm_e ?_)
    rcases h with ⟨rfl, rfl, h⟩ | ⟨rfl, h⟩
    · exact H0 fun k hk => h k (by omega) hk
    · exact H1 S I h
  · rintro n i ⟨s1, s2⟩ hi ⟨S, rfl, I, h⟩ nx
    obtain ⟨S01, sQ, sS⟩ := I
    have st : ∀ (k : Nat) (z : Int32), z = nI k → k < 256 → (i < 256 → k = i) → wY_spread_47 post J (wY_spread_20 post J (nI p) x3 n) (nI p) s1 x3 (nI i) z (qa_n D) he (qa_n S) := by
      intro k z hz hk hki
      subst hz
      have d := D01 (256 * p + k) (by omega)
      have sk := S01 k hk
      have same : ¬ qp_bad (qp_g D p) S k → wY_spread_20 post J (nI p) x3 n s1 (nI (i + 1)) (qa_n D) he (qa_n S) := fun nb => nx (s1, qa_n S) ⟨S, rfl, ⟨S01, sQ, sS⟩, by
        rcases h with ⟨a, b, c⟩ | h
        · refine Or.inl ⟨a, b, fun j hj hl => ?_⟩
          by_cases e : j = i
          · rw [e, ← hki (by omega), ← b]; exact nb
          · exact c j (by omega) hl
        · exact Or.inr h⟩
      refine And.intro (pk_in (256 * p + k) 768 (by omega) (qn_256 p k) (by decide)) (pk_eq (D (256 * p + k)) 0 (fun e => qm_i (same fun w => ?_)) (fun e => ⟨vp_in_nI hk (by decide), pk_eq (S k) 0 (fun e2 => qy_met hk S01 (fun m => br_f (by decide) ⟨vp_in_nI hk (by decide), qm_t k 1 (qm_i ?_)⟩) (fun m => br_t rfl (qm_i (same fun w => m w.2.2)))) (fun e2 => qm_i (same fun w => e2 w.2.1)) (qm_r k rfl) rfl (by omega) (by omega)⟩) (qm_r _ rfl (qn_256 p k) (by omega)) rfl (by omega) (by omega))
      · have w1 : D (256 * p + k) = 1 := w.1
        omega
      · have gk : qp_g D p k = 1 := by show D (256 * p + k) = 1; omega
        obtain ⟨y, hy, nb, sy⟩ := (qp_met_nb hk).mp m
        have cn : qp_cs1 (qa_u S k 1) = qp_cs1 S + 1 := qp_cn_one hk (by rw [e2]; rfl) (by rw [qa_us]; rfl) (fun j _ hj => by rw [qa_un S hj])
        refine nx (1, qa_n (qa_u S k 1)) ⟨_, rfl, ⟨fun x hx => ?_, fun x hx hs => ?_, fun x hx hs => ?_⟩, Or.inr ⟨rfl, ?_⟩⟩
        · by_cases c : x = k
          · rw [c, qa_us]; exact Nat.le_refl _
          · rw [qa_un S c]; exact S01 x hx
        · by_cases c : x = k
          · rw [c]; exact cQ y k hy hk (sQ y hy sy) gk nb
          · rw [qa_un S c] at hs; exact sQ x hx hs
        · by_cases c : x = k
          · rw [c, qa_us]
          · rw [qa_un S c]; exact sS x hx hs
        · rcases h with ⟨-, b, -⟩ | ⟨-, h⟩
          · rw [cn, b]; exact Nat.le_refl _
          · rw [cn]; omega
    refine br_f (nI_ge (b := 512) hi (by decide)) (pk_le 256 i (fun c => st (511 - i) _ (pk_sub (a := 511) (by omega)) (by omega) (fun z => absurd z (by omega))) (fun c => st i _ rfl c (fun _ => rfl)) rfl rfl (by omega) (by omega))
theorem qy_spread {post : SY → Prop} {D : Nat → Nat} {p : Nat} {Q : Nat → Prop} {S0 : Nat → Nat} (hp : p < 3) (D01 : ∀ i, i < 768 → D i ≤ 1) (cQ : ∀ x y, x < 256 → y < 256 → Q x → qp_g D p y = 1 → qp_nb x y → Q y) (I0 : qp_sn Q S0 S0) (c0 : 1 ≤ qp_cs1 S0) (K : ∀ S, qp_sn Q S0 S → (∀ k, k < 256 → ¬ qp_bad (qp_g D p) S k) → post (qa_n D, he, qa_n S)) : wpY_spread post (qa_n D, he, qa_n S0) (nI p) := by
  refine pk_loop (σ := Int32 × (Nat → Int32)) (fun n i s => wY_spread_4 post (nI p) n s.1 (nI i) (qa_n D) he s.2) (fun i s => ∃ S, s.2 = qa_n S ∧ qp_sn Q S0 S ∧ ((s.1 = 0 ∧ ∀ k, k < 256 → ¬ qp_bad (qp_g D p) S k) ∨ (s.1 = 1 ∧ i + 1 ≤ qp_cs1 S))) 256 0 (1, qa_n S0) (by omega) ⟨S0, rfl, I0, Or.inr ⟨rfl, by omega⟩⟩ ?_ ?_
  · rintro n ⟨s1, s2⟩ ⟨S, rfl, I, h⟩
    refine br_t (by decide) ?_
    rcases h with ⟨-, h⟩ | ⟨-, h⟩
    · exact K S I h
    · have : qp_cs1 S ≤ 256 := qp_cn_le _ _
      omega
  · rintro n i ⟨s1, s2⟩ hi ⟨S, rfl, I, h⟩ nx
    refine br_f (nI_ge (b := 256) hi (by decide)) ?_
    rcases h with ⟨rfl, h⟩ | ⟨rfl, h⟩
    · exact br_t rfl (K S I h)
    · refine br_f (show ¬ (1 : Int32) = 0 by decide) (qy_spread20 (Q := Q) hp D01 cQ ⟨I.1, I.2.1, fun x _ hs => hs⟩ (fun S' I' h' => ?_) (fun h' => ?_))
      · rw [nI_1]
        exact nx (1, qa_n S') ⟨S', rfl, ⟨I'.1, I'.2.1, fun x hx hs => I'.2.2 x hx (I.2.2 x hx hs)⟩, Or.inr ⟨rfl, by omega⟩⟩
      · rw [nI_1]
        exact nx (0, qa_n S) ⟨S, rfl, I, Or.inl ⟨rfl, h'⟩⟩
/-- x is connected with a set point below k -/
def qp_Q (g : Nat → Nat) (k x : Nat) : Prop := ∃ y, y < k ∧ g y = 1 ∧ qp_con g y x
theorem qy_regions {post : Int32 → SY → Prop} {D : Nat → Nat} {p : Nat} (hp : p < 3) (D01 : ∀ i, i < 768 → D i ≤ 1) (K : ∀ se', post (nI (qp_reg (qp_g D p))) (qa_n D, he, se')) : wpY_regions post (qa_n D, he, se) (nI p) := by
  obtain ⟨S00, rfl⟩ := qa_of se
  unfold wpY_regions
  dsimp only
  refine qy_bad hp (br_t rfl ?_)
  refine pk_loop (fun n i s => wY_regions_12 post (nI p) n (nI i) (qa_n D) he s) (fun i s => ∃ S, s = qa_n S ∧ ∀ x, x < i → S x = 0) 256 0 (qa_n S00) (by omega) ⟨S00, rfl, fun x h => absurd h (by omega)⟩ ?_ ?_
  · rintro n s ⟨S, rfl, hS⟩
    refine br_t (by decide) ?_
    refine pk_loop (σ := Int32 × (Nat → Int32)) (fun n i s => wY_regions_36 post (nI p) n s.1 (nI i) (qa_n D) he s.2) (fun i s => ∃ S, s.2 = qa_n S ∧ s.1 = nI (qp_cn (fun y => qp_b (qp_fst (qp_g D p) y)) i) ∧ ∀ x, x < 256 → S x ≤ 1 ∧ (S x = 1 ↔ qp_Q (qp_g D p) i x)) 256 0 (0, qa_n S) (by omega) ⟨S, rfl, rfl, fun x hx => ⟨by rw [hS x hx]; omega, by rw [hS x hx]; exact ⟨fun z => absurd z (by decide), fun ⟨y, hy, _⟩ => absurd hy (by omega)⟩⟩⟩ ?_ ?_
    · rintro n ⟨s1, s2⟩ ⟨S, rfl, rfl, -⟩
      exact br_t (by decide) (K _)
    · rintro n k ⟨s1, s2⟩ hk ⟨S, rfl, rfl, I⟩ nx
      have d := D01 (256 * p + k) (by omega)
      have sk := (I k hk).1
      have up : qp_cn (fun y => qp_b (qp_fst (qp_g D p) y)) (k + 1) = qp_cn (fun y => qp_b (qp_fst (qp_g D p) y)) k + if qp_b (qp_fst (qp_g D p) k) then 1 else 0 := rfl
      generalize qp_cn (fun y => qp_b (qp_fst (qp_g D p) y)) k = cnt at *
      have keep : ¬ qp_fst (qp_g D p) k → (qp_g D p k = 1 → qp_Q (qp_g D p) k k) → wY_regions_36 post (nI p) n (nI cnt) (nI (k + 1)) (qa_n D) he (qa_n S) := fun nf q => nx (nI cnt, qa_n S) ⟨S, rfl, by rw [up, qp_bf.mpr nf]; rfl, fun x hx => ⟨(I x hx).1, (I x hx).2.trans ⟨fun ⟨y, hy, a, b⟩ => ⟨y, by omega, a, b⟩, fun ⟨y, hy, a, b⟩ => by
        by_cases c : y = k
        · subst c
          obtain ⟨w, hw, a2, b2⟩ := q a
          exact ⟨w, hw, a2, qp_con_t b2 b⟩
        · exact ⟨y, by omega, a, b⟩⟩⟩⟩
      refine br_f (nI_ge (b := 256) hk (by decide)) ⟨pk_in (256 * p + k) 768 (by omega) (qn_256 p k) (by decide), pk_eq (D (256 * p + k)) 0 (fun e => qm_i (keep (fun f => ?_) (fun f => ?_))) (fun e => ⟨vp_in_nI hk (by decide), pk_eq (S k) 0 (fun e2 => ⟨vp_in_nI hk (by decide), qm_t k 1 (nm_r (nI_1 _) ?_)⟩) (fun e2 => qm_i ?_) (qm_r k rfl) rfl (by omega) (by omega)⟩) (qm_r _ rfl (qn_256 p k) (by omega)) rfl (by omega) (by omega)⟩
      · have : D (256 * p + k) = 1 := f.1
        omega
      · have : D (256 * p + k) = 1 := f
        omega
      · have gk : qp_g D p k = 1 := by show D (256 * p + k) = 1; omega
        have fst : qp_fst (qp_g D p) k := ⟨gk, fun z hz gz c => by
          have := (I k hk).2.mpr ⟨z, hz, gz, c⟩
          omega⟩
        have cQ : ∀ x y, x < 256 → y < 256 → qp_Q (qp_g D p) (k + 1) x → qp_g D p y = 1 → qp_nb x y → qp_Q (qp_g D p) (k + 1) y := fun x y hx hy q gy nb => by
          obtain ⟨w, hw, gw, c⟩ := q
          exact ⟨w, hw, gw, qp_con_s c hx hy (qp_con_1 c (by omega) gw).2 gy nb⟩
        have k1 : qa_u S k 1 k = 1 := qa_us S k 1
        have grow : ∀ x, S x = 1 → qa_u S k 1 x = 1 := fun x hx => by
          by_cases c : x = k
          · rw [c, qa_us]
          · rw [qa_un S c]; exact hx
        have I1 : qp_sn (qp_Q (qp_g D p) (k + 1)) (qa_u S k 1) (qa_u S k 1) := by
          refine ⟨fun x hx => ?_, fun x hx hs => ?_, fun x _ hs => hs⟩
          · by_cases c : x = k
            · rw [c, qa_us]; exact Nat.le_refl _
            · rw [qa_un S c]; exact (I x hx).1
          · by_cases c : x = k
            · rw [c]; exact ⟨k, by omega, gk, qp_con_r k⟩
            · rw [qa_un S c] at hs
              obtain ⟨y, hy, a, b⟩ := (I x hx).2.mp hs
              exact ⟨y, by omega, a, b⟩
        have c1 : 1 ≤ qp_cs1 (qa_u S k 1) := by
          have cn : qp_cs1 (qa_u S k 1) = qp_cs1 S + 1 := qp_cn_one hk (by rw [e2]; rfl) (by rw [qa_us]; rfl) (fun j _ hj => by rw [qa_un S hj])
          omega
        refine qy_spread hp D01 cQ I1 c1 fun S' I' cl => qm_i (nx (nI (cnt + 1), qa_n S') ⟨S', rfl, by rw [up, qp_bt.mpr fst]; rfl, fun x hx => ⟨I'.1 x hx, fun hs => I'.2.1 x hx hs, ?_⟩⟩)
        rintro ⟨y, hy, gy, c⟩
        have sy : S' y = 1 := by
          refine I'.2.2 y (by omega) ?_
          by_cases e3 : y = k
          · rw [e3]; exact k1
          · exact grow y ((I y (by omega)).2.mpr ⟨y, by omega, gy, qp_con_r y⟩)
        refine c (fun x => S' x = 1) sy fun a b ha hb sa ga gb nb => ?_
        have := I'.1 b hb
        have cb := cl b hb
        apply Classical.byContradiction
        intro z
        exact cb ⟨gb, by omega, (qp_met_nb hb).mpr ⟨a, ha, nb, sa⟩⟩
      · have gk : qp_g D p k = 1 := by show D (256 * p + k) = 1; omega
        obtain ⟨y, hy, a, b⟩ := (I k hk).2.mp (by omega)
        exact keep (fun f => f.2 y hy a b) (fun _ => ⟨y, hy, a, b⟩)
  · rintro n i s hi ⟨S, rfl, hS⟩ nx
    refine br_f (nI_ge (b := 256) hi (by decide)) ⟨vp_in_nI hi (by decide), qm_t i 0 (qm_i (nx _ ⟨_, rfl, fun x hx => ?_⟩))⟩
    by_cases c : x = i
    · rw [c, qa_us]
    · rw [qa_un S c]; exact hS x (by omega)
end
end
section
/-! the relation and the owed statements -/
/-- both sides show the same pictures D -/
def i_Rel (k : Nat) (u : SX) (v : SY) : Prop := ∃ (D : Nat → Nat) (he se : Nat → Int32), v = (qa_n D, he, se) ∧ qx_R D u
theorem qi_in {k : Nat} {u : SX} {D : Nat → Nat} {he se : Nat → Int32} (R : qx_R D u) : i_Rel k u (qa_n D, he, se) := Exists.intro D ⟨he, se, rfl, R⟩
theorem qi_el {k : Nat} {u : SX} {v : SY} (I : i_Rel k u v) : ∃ (D : Nat → Nat) (he se : Nat → Int32), v = (qa_n D, he, se) ∧ qx_R D u := I
theorem i_up {k : Nat} {u : SX} {v : SY} (h : i_Rel k u v) : i_Rel (k + 5) u v := h
theorem qi_st0 : qp_St 2 (fun _ => 0) (fun _ => 0) (fun _ => 0) (qa_u (qa_u (fun _ => 0) 0 1) 1 1) (fun _ => 0) := by
  have z : ∀ n, 2 ≤ n → ¬ qa_u (qa_u (fun _ => 0) 0 1) 1 1 n = 1 := fun n n2 => by
    rw [qa_un _ (by omega), qa_un _ (by omega)]
    decide
  refine ⟨by decide, by decide, fun n => ?_, fun n n2 _ u => absurd u (z n n2), fun n n2 _ u => absurd u (z n n2), fun n m n2 _ _ _ u => absurd u (z n n2), fun n n2 _ u => absurd u (z n n2), fun key _ => ⟨[], rfl, List.nodup_nil, fun n => ⟨fun h => absurd h List.not_mem_nil, fun h => absurd h.2.2.1 (z n h.1)⟩⟩, by decide +kernel⟩
  unfold qa_u
  by_cases h1 : n = 1
  · rw [if_pos h1]; omega
  · rw [if_neg h1]
    by_cases h0 : n = 0
    · rw [if_pos h0]; omega
    · rw [if_neg h0]; exact Nat.zero_le _
theorem i_vc0 : wpX_init (fun u => wpY_init (fun v => i_Rel 0 u v)) := by
  intro a ha b hb
  have e : b = qa_n (qa_u (qa_u (fun _ => 0) 0 1) 1 1) := by
    rw [hb, ha, ← qa_upd, ← qa_upd]
    rfl
  rw [e]
  refine qi_in (k := 0) (D := fun _ => 0) (he := fun _ => 0) (se := fun _ => 0) ?_
  refine qx_in (P := fun _ => 0) (N := fun _ => 0) (B := fun _ => 0) (T := fun _ => 0) (C := fun _ => 0) qi_st0 (fun p _ => ⟨qp_tr_le 4 (Nat.zero_le 1), rfl⟩) (fun p t _ _ => qp_ds_le _ _ (Nat.zero_le 1))
theorem i_vc_paint {k : Nat} {u : SX} {v : SY} (I : i_Rel k u v) (hk : k + 5 ≤ 2560) (v1 : Int32) (v2 : Int32) (v3 : Int32) (v4 : Int32) : wpX_paint (fun r u' => wpY_paint (fun r' v' => r' = r ∧ i_Rel (k + 5) u' v') v v1 v2 v3 v4) u v1 v2 v3 v4 := by
  obtain ⟨us, ch, cn, bk, iu, mk, pc, fr, ot, dr, ct, rt⟩ := u
  obtain ⟨D, he, se, rfl, R⟩ := qi_el I
  have D01 := qx_01 R
  rcases qv_pic v1 with ⟨p, hp, rfl, -, -⟩ | ⟨a, b⟩
  · rcases qv_rec v2 v3 with ⟨lo, up, hr, rfl, rfl, -, -⟩ | ⟨a, b⟩
    · by_cases m0 : v4 < 0
      · unfold wpX_paint wpY_paint
        dsimp only
        exact qx_isP hp (br_f (by decide) (qx_isR hr (br_f (by decide) (br_t m0 (qy_bad hp (br_t rfl (qy_bf hr (br_t rfl (br_t m0 ⟨rfl, qi_in R⟩)))))))))
      · by_cases m2 : v4 ≤ 2
        · obtain ⟨m, hm, rfl⟩ := nI_of2 (n := 2) (by decide) m0 m2
          exact qx_paint R hp hr hm (qy_to D p (qp_pn D p lo up m)) fun x' R' => qy_paint hp hr hm D01 fun _ => ⟨rfl, qi_in R'⟩
        · unfold wpX_paint wpY_paint
          dsimp only
          exact qx_isP hp (br_f (by decide) (qx_isR hr (br_f (by decide) (br_f m0 (br_f m2 (qy_bad hp (br_t rfl (qy_bf hr (br_t rfl (br_f m0 (br_f m2 ⟨rfl, qi_in R⟩)))))))))))
    · unfold wpX_paint wpY_paint
      dsimp only
      exact qx_isP hp (br_f (by decide) (a _ (br_t rfl (qy_bad hp (br_t rfl (b _ _ (br_f (by decide) ⟨rfl, qi_in R⟩)))))))
  · unfold wpX_paint wpY_paint
    dsimp only
    exact a _ (br_t rfl (b _ _ (br_f (by decide) ⟨rfl, qi_in R⟩)))
theorem i_vc_join {k : Nat} {u : SX} {v : SY} (I : i_Rel k u v) (hk : k + 5 ≤ 2560) (v1 : Int32) (v2 : Int32) (v3 : Int32) : wpX_join (fun r u' => wpY_join (fun r' v' => r' = r ∧ i_Rel (k + 5) u' v') v v1 v2 v3) u v1 v2 v3 := by
  obtain ⟨us, ch, cn, bk, iu, mk, pc, fr, ot, dr, ct, rt⟩ := u
  obtain ⟨D, he, se, rfl, R⟩ := qi_el I
  have D01 := qx_01 R
  by_cases k0 : v1 < 0
  · unfold wpX_join wpY_join
    dsimp only
    exact br_t k0 (br_t k0 ⟨rfl, qi_in R⟩)
  · by_cases k3 : v1 ≤ 3
    · rcases qv_pic v2 with ⟨p, hp, rfl, -, -⟩ | ⟨a, b⟩
      · rcases qv_pic v3 with ⟨q, hq, rfl, -, -⟩ | ⟨a, b⟩
        · obtain ⟨m, hm, rfl⟩ := nI_of2 (n := 3) (by decide) k0 k3
          exact qx_join R hp hq (by omega) (qy_to D p (qp_jg D m p q)) fun x' R' => qy_join (by omega) hp hq D01 fun _ he' => ⟨rfl, qi_in R'⟩
        · unfold wpX_join wpY_join
          dsimp only
          exact br_f k0 (br_t k3 (qx_isP hp (br_f (by decide) (a _ (br_t rfl (br_f k0 (br_t k3 (qy_bad hp (br_t rfl (b _ _ (br_f (by decide) ⟨rfl, qi_in R⟩)))))))))))
      · unfold wpX_join wpY_join
        dsimp only
        exact br_f k0 (br_t k3 (a _ (br_t rfl (br_f k0 (br_t k3 (b _ _ (br_f (by decide) ⟨rfl, qi_in R⟩)))))))
    · unfold wpX_join wpY_join
      dsimp only
      exact br_f k0 (br_f k3 (br_f k0 (br_f k3 ⟨rfl, qi_in R⟩)))
theorem i_vc_copy {k : Nat} {u : SX} {v : SY} (I : i_Rel k u v) (hk : k + 5 ≤ 2560) (v1 : Int32) (v2 : Int32) : wpX_copy (fun r u' => wpY_copy (fun r' v' => r' = r ∧ i_Rel (k + 5) u' v') v v1 v2) u v1 v2 := by
  obtain ⟨us, ch, cn, bk, iu, mk, pc, fr, ot, dr, ct, rt⟩ := u
  obtain ⟨D, he, se, rfl, R⟩ := qi_el I
  have D01 := qx_01 R
  rcases qv_pic v1 with ⟨p, hp, rfl, -, -⟩ | ⟨a, b⟩
  · rcases qv_pic v2 with ⟨q, hq, rfl, -, -⟩ | ⟨a, b⟩
    · exact qx_copy R hp hq (qy_to D p (qp_g D q)) fun x' R' => qy_copy hp hq D01 fun _ he' => ⟨rfl, qi_in R'⟩
    · unfold wpX_copy wpY_copy
      dsimp only
      exact qx_isP hp (br_f (by decide) (a _ (br_t rfl (qy_bad hp (br_t rfl (b _ _ (br_f (by decide) ⟨rfl, qi_in R⟩)))))))
  · unfold wpX_copy wpY_copy
    dsimp only
    exact a _ (br_t rfl (b _ _ (br_f (by decide) ⟨rfl, qi_in R⟩)))
theorem i_vc_turn {k : Nat} {u : SX} {v : SY} (I : i_Rel k u v) (hk : k + 5 ≤ 2560) (v1 : Int32) (v2 : Int32) : wpX_turn (fun r u' => wpY_turn (fun r' v' => r' = r ∧ i_Rel (k + 5) u' v') v v1 v2) u v1 v2 := by
  obtain ⟨us, ch, cn, bk, iu, mk, pc, fr, ot, dr, ct, rt⟩ := u
  obtain ⟨D, he, se, rfl, R⟩ := qi_el I
  have D01 := qx_01 R
  by_cases k0 : v1 < 0
  · unfold wpX_turn wpY_turn
    dsimp only
    exact br_t k0 (br_t k0 ⟨rfl, qi_in R⟩)
  · by_cases k2 : v1 ≤ 2
    · rcases qv_pic v2 with ⟨p, hp, rfl, -, -⟩ | ⟨a, b⟩
      · obtain ⟨m, hm, rfl⟩ := nI_of2 (n := 2) (by decide) k0 k2
        refine qx_turn R hp (by omega) (qy_to D p (qp_tg D m p)) fun x' R' => qy_turn (by omega) hp D01 fun D' to _ he' => ?_
        have e : ∀ i, i < 768 → D' i = qy_st D p (qp_tg D m p) 256 i := fun i hi => by
          have a := to (i / 256) (i % 256) (by omega) (by omega)
          have b := qy_to D p (qp_tg D m p) (i / 256) (i % 256) (by omega) (by omega)
          rw [show 256 * (i / 256) + i % 256 = i by omega] at a b
          rw [a, b]
        have g : qp_tal (qp_g D' p) 0 = qp_tal (qp_g (qy_st D p (qp_tg D m p) 256) p) 0 := by
          have h : ∀ t, t < 256 → qp_H (qp_g D' p) t = qp_H (qp_g (qy_st D p (qp_tg D m p) 256) p) t := fun t ht => by
            have ee : ∀ h, qp_e (qp_g D' p) t h ↔ qp_e (qp_g (qy_st D p (qp_tg D m p) 256) p) t h := fun h => by
              unfold qp_e qp_g
              constructor
              · intro z s hs w
                rw [← e _ (by omega), ← e _ (by omega)]; exact z s hs w
              · intro z s hs w
                rw [e _ (by omega), e _ (by omega)]; exact z s hs w
            unfold qp_H
            rw [qp_bc (ee 4), qp_bc (ee 3), qp_bc (ee 2), qp_bc (ee 1)]
          unfold qp_tal
          exact qp_sum_congr _ fun t ht => by rw [h t ht]
        exact ⟨by rw [g], qi_in (qx_cg e R')⟩
      · unfold wpX_turn wpY_turn
        dsimp only
        exact br_f k0 (br_t k2 (a _ (br_t rfl (br_f k0 (br_t k2 (b _ _ (br_f (by decide) ⟨rfl, qi_in R⟩)))))))
    · unfold wpX_turn wpY_turn
      dsimp only
      exact br_f k0 (br_f k2 (br_f k0 (br_f k2 ⟨rfl, qi_in R⟩)))
theorem i_vc_shift {k : Nat} {u : SX} {v : SY} (I : i_Rel k u v) (hk : k + 5 ≤ 2560) (v1 : Int32) (v2 : Int32) (v3 : Int32) : wpX_shift (fun r u' => wpY_shift (fun r' v' => r' = r ∧ i_Rel (k + 5) u' v') v v1 v2 v3) u v1 v2 v3 := by
  obtain ⟨us, ch, cn, bk, iu, mk, pc, fr, ot, dr, ct, rt⟩ := u
  obtain ⟨D, he, se, rfl, R⟩ := qi_el I
  have D01 := qx_01 R
  rcases qv_pic v1 with ⟨p, hp, rfl, -, -⟩ | ⟨a, b⟩
  · by_cases x1 : v2 < -15
    · unfold wpX_shift wpY_shift
      dsimp only
      exact qx_isP hp (br_f (by decide) (br_t x1 (qy_bad hp (br_t rfl (br_t x1 ⟨rfl, qi_in R⟩)))))
    · by_cases x2 : 15 < v2
      · unfold wpX_shift wpY_shift
        dsimp only
        exact qx_isP hp (br_f (by decide) (br_f x1 (br_t x2 (qy_bad hp (br_t rfl (br_f x1 (br_t x2 ⟨rfl, qi_in R⟩)))))))
      · by_cases y1 : v3 < -15
        · unfold wpX_shift wpY_shift
          dsimp only
          exact qx_isP hp (br_f (by decide) (br_f x1 (br_f x2 (br_t y1 (qy_bad hp (br_t rfl (br_f x1 (br_f x2 (br_t y1 ⟨rfl, qi_in R⟩)))))))))
        · by_cases y2 : v3 ≤ 15
          · obtain ⟨a, ha, ea⟩ := qn_sf_of v2 x1 (Int32.not_lt.mp x2)
            obtain ⟨b, hb, eb⟩ := qn_sf_of v3 y1 y2
            exact qx_shift R hp ha hb ea eb x1 x2 y1 y2 (qy_to D p (qp_sf a b (qp_g D p))) fun x' R' => qy_shift hp ha hb ea eb x1 x2 y1 y2 D01 fun _ he' => ⟨rfl, qi_in R'⟩
          · unfold wpX_shift wpY_shift
            dsimp only
            exact qx_isP hp (br_f (by decide) (br_f x1 (br_f x2 (br_f y1 (br_f y2 (qy_bad hp (br_t rfl (br_f x1 (br_f x2 (br_f y1 (br_f y2 ⟨rfl, qi_in R⟩)))))))))))
  · unfold wpX_shift wpY_shift
    dsimp only
    exact a _ (br_t rfl (b _ _ (br_f (by decide) ⟨rfl, qi_in R⟩)))
theorem i_vc_zoom {k : Nat} {u : SX} {v : SY} (I : i_Rel k u v) (hk : k + 5 ≤ 2560) (v1 : Int32) (v2 : Int32) (v3 : Int32) : wpX_zoom (fun r u' => wpY_zoom (fun r' v' => r' = r ∧ i_Rel (k + 5) u' v') v v1 v2 v3) u v1 v2 v3 := by
  obtain ⟨us, ch, cn, bk, iu, mk, pc, fr, ot, dr, ct, rt⟩ := u
  obtain ⟨D, he, se, rfl, R⟩ := qi_el I
  have D01 := qx_01 R
  rcases qv_pic v1 with ⟨p, hp, rfl, -, -⟩ | ⟨a, b⟩
  · rcases qv_pic v2 with ⟨q, hq, rfl, -, -⟩ | ⟨a, b⟩
    · by_cases k0 : v3 < 0
      · unfold wpX_zoom wpY_zoom
        dsimp only
        exact qx_isP hp (br_f (by decide) (qx_isP hq (br_f (by decide) (br_t k0 (qy_bad hp (br_t rfl (qy_bad hq (br_t rfl (br_t k0 ⟨rfl, qi_in R⟩)))))))))
      · by_cases k3 : v3 ≤ 3
        · obtain ⟨c, hc, rfl⟩ := nI_of2 (n := 3) (by decide) k0 k3
          exact qx_zoom R hp hq (by omega) (qy_to D p (qp_zg D q c)) fun x' R' => qy_zoom hp hq (by omega) D01 fun _ he' => ⟨rfl, qi_in R'⟩
        · unfold wpX_zoom wpY_zoom
          dsimp only
          exact qx_isP hp (br_f (by decide) (qx_isP hq (br_f (by decide) (br_f k0 (br_f k3 (qy_bad hp (br_t rfl (qy_bad hq (br_t rfl (br_f k0 (br_f k3 ⟨rfl, qi_in R⟩)))))))))))
    · unfold wpX_zoom wpY_zoom
      dsimp only
      exact qx_isP hp (br_f (by decide) (a _ (br_t rfl (qy_bad hp (br_t rfl (b _ _ (br_f (by decide) ⟨rfl, qi_in R⟩)))))))
  · unfold wpX_zoom wpY_zoom
    dsimp only
    exact a _ (br_t rfl (b _ _ (br_f (by decide) ⟨rfl, qi_in R⟩)))
theorem i_vc_at {k : Nat} {u : SX} {v : SY} (I : i_Rel k u v) (hk : k + 5 ≤ 2560) (v1 : Int32) (v2 : Int32) (v3 : Int32) : wpX_at (fun r => wpY_at (fun r' => r' = r ∧ i_Rel (k + 5) u v) v v1 v2 v3) u v1 v2 v3 := by
  obtain ⟨us, ch, cn, bk, iu, mk, pc, fr, ot, dr, ct, rt⟩ := u
  obtain ⟨D, he, se, rfl, R⟩ := qi_el I
  have D01 := qx_01 R
  rcases qv_pic v1 with ⟨p, hp, rfl, -, -⟩ | ⟨a, b⟩
  · rcases qv_pnt v2 v3 with ⟨i, j, hi, hj, rfl, rfl, -, -⟩ | ⟨a, b⟩
    · exact qx_at R hp hi hj (qy_at hp hi hj D01 ⟨rfl, qi_in R⟩)
    · unfold wpX_at wpY_at
      dsimp only
      exact qx_isP hp (br_f (by decide) (a _ (br_t rfl (qy_bad hp (br_t rfl (b _ _ (br_f (by decide) ⟨rfl, qi_in R⟩)))))))
  · unfold wpX_at wpY_at
    dsimp only
    exact a _ (br_t rfl (b _ _ (br_f (by decide) ⟨rfl, qi_in R⟩)))
theorem i_vc_area {k : Nat} {u : SX} {v : SY} (I : i_Rel k u v) (hk : k + 5 ≤ 2560) (v1 : Int32) : wpX_area (fun r u' => wpY_area (fun r' => r' = r ∧ i_Rel (k + 5) u' v) v v1) u v1 := by
  obtain ⟨us, ch, cn, bk, iu, mk, pc, fr, ot, dr, ct, rt⟩ := u
  obtain ⟨D, he, se, rfl, R⟩ := qi_el I
  have D01 := qx_01 R
  rcases qv_pic v1 with ⟨p, hp, rfl, -, -⟩ | ⟨a, b⟩
  · exact qx_ar R hp fun x' R' => qy_area hp D01 ⟨rfl, qi_in R'⟩
  · unfold wpX_area wpY_area
    dsimp only
    exact a _ (br_t rfl (b _ _ (br_f (by decide) ⟨rfl, qi_in R⟩)))
theorem i_vc_areaIn {k : Nat} {u : SX} {v : SY} (I : i_Rel k u v) (hk : k + 5 ≤ 2560) (v1 : Int32) (v2 : Int32) (v3 : Int32) : wpX_areaIn (fun r u' => wpY_areaIn (fun r' => r' = r ∧ i_Rel (k + 5) u' v) v v1 v2 v3) u v1 v2 v3 := by
  obtain ⟨us, ch, cn, bk, iu, mk, pc, fr, ot, dr, ct, rt⟩ := u
  obtain ⟨D, he, se, rfl, R⟩ := qi_el I
  have D01 := qx_01 R
  rcases qv_pic v1 with ⟨p, hp, rfl, -, -⟩ | ⟨a, b⟩
  · rcases qv_rec v2 v3 with ⟨lo, up, hr, rfl, rfl, -, -⟩ | ⟨a, b⟩
    · exact qx_areaIn R hp hr fun x' R' => qy_areaIn hp hr D01 ⟨rfl, qi_in R'⟩
    · unfold wpX_areaIn wpY_areaIn
      dsimp only
      exact qx_isP hp (br_f (by decide) (a _ (br_t rfl (qy_bad hp (br_t rfl (b _ _ (br_f (by decide) ⟨rfl, qi_in R⟩)))))))
  · unfold wpX_areaIn wpY_areaIn
    dsimp only
    exact a _ (br_t rfl (b _ _ (br_f (by decide) ⟨rfl, qi_in R⟩)))
theorem i_vc_tiles {k : Nat} {u : SX} {v : SY} (I : i_Rel k u v) (hk : k + 5 ≤ 2560) (v1 : Int32) : wpX_tiles (fun r => wpY_tiles (fun r' => r' = r ∧ i_Rel (k + 5) u v) v v1) u v1 := by
  obtain ⟨us, ch, cn, bk, iu, mk, pc, fr, ot, dr, ct, rt⟩ := u
  obtain ⟨D, he, se, rfl, R⟩ := qi_el I
  have D01 := qx_01 R
  rcases qv_pic v1 with ⟨p, hp, rfl, -, -⟩ | ⟨a, b⟩
  · exact qx_tiles R hp (qy_tiles hp D01 ⟨rfl, qi_in R⟩)
  · unfold wpX_tiles wpY_tiles
    dsimp only
    exact a _ (br_t rfl (b _ _ (br_f (by decide) ⟨rfl, qi_in R⟩)))
theorem i_vc_tilesOf {k : Nat} {u : SX} {v : SY} (I : i_Rel k u v) (hk : k + 5 ≤ 2560) (v1 : Int32) (v2 : Int32) : wpX_tilesOf (fun r => wpY_tilesOf (fun r' => r' = r ∧ i_Rel (k + 5) u v) v v1 v2) u v1 v2 := by
  obtain ⟨us, ch, cn, bk, iu, mk, pc, fr, ot, dr, ct, rt⟩ := u
  obtain ⟨D, he, se, rfl, R⟩ := qi_el I
  have D01 := qx_01 R
  rcases qv_pic v1 with ⟨p, hp, rfl, -, -⟩ | ⟨a, b⟩
  · by_cases z : ∃ h, h ≤ 4 ∧ v2 = nI (2 ^ h)
    · obtain ⟨h, hh, rfl⟩ := z
      exact qx_tilesOf R hp hh (qy_tilesOf hp hh D01 ⟨rfl, qi_in R⟩)
    · have z' : ∀ h, h ≤ 4 → ¬ v2 = nI (2 ^ h) := fun h hh e => z ⟨h, hh, e⟩
      exact qx_tilesOf_0 hp z' (qy_tilesOf_0 hp z' ⟨rfl, qi_in R⟩)
  · unfold wpX_tilesOf wpY_tilesOf
    dsimp only
    exact a _ (br_t rfl (b _ _ (br_f (by decide) ⟨rfl, qi_in R⟩)))
theorem i_vc_tileAt {k : Nat} {u : SX} {v : SY} (I : i_Rel k u v) (hk : k + 5 ≤ 2560) (v1 : Int32) (v2 : Int32) (v3 : Int32) : wpX_tileAt (fun r => wpY_tileAt (fun r' => r' = r ∧ i_Rel (k + 5) u v) v v1 v2 v3) u v1 v2 v3 := by
  obtain ⟨us, ch, cn, bk, iu, mk, pc, fr, ot, dr, ct, rt⟩ := u
  obtain ⟨D, he, se, rfl, R⟩ := qi_el I
  have D01 := qx_01 R
  rcases qv_pic v1 with ⟨p, hp, rfl, -, -⟩ | ⟨a, b⟩
  · rcases qv_pnt v2 v3 with ⟨i, j, hi, hj, rfl, rfl, -, -⟩ | ⟨a, b⟩
    · exact qx_tileAt R hp hi hj (qy_tileAt hp hi hj D01 ⟨rfl, qi_in R⟩)
    · unfold wpX_tileAt wpY_tileAt
      dsimp only
      exact qx_isP hp (br_f (by decide) (a _ (br_t rfl (qy_bad hp (br_t rfl (b _ _ (br_f (by decide) ⟨rfl, qi_in R⟩)))))))
  · unfold wpX_tileAt wpY_tileAt
    dsimp only
    exact a _ (br_t rfl (b _ _ (br_f (by decide) ⟨rfl, qi_in R⟩)))
theorem i_vc_same {k : Nat} {u : SX} {v : SY} (I : i_Rel k u v) (hk : k + 5 ≤ 2560) (v1 : Int32) (v2 : Int32) : wpX_same (fun r => wpY_same (fun r' => r' = r ∧ i_Rel (k + 5) u v) v v1 v2) u v1 v2 := by
  obtain ⟨us, ch, cn, bk, iu, mk, pc, fr, ot, dr, ct, rt⟩ := u
  obtain ⟨D, he, se, rfl, R⟩ := qi_el I
  have D01 := qx_01 R
  rcases qv_pic v1 with ⟨p, hp, rfl, -, -⟩ | ⟨a, b⟩
  · rcases qv_pic v2 with ⟨q, hq, rfl, -, -⟩ | ⟨a, b⟩
    · exact qx_same R hp hq (fun h => qy_same hp hq D01 (fun _ => ⟨rfl, qi_in R⟩) (fun z => absurd h z)) (fun h => qy_same hp hq D01 (fun z => absurd z h) (fun _ => ⟨rfl, qi_in R⟩))
    · unfold wpX_same wpY_same
      dsimp only
      exact qx_isP hp (br_f (by decide) (a _ (br_t rfl (qy_bad hp (br_t rfl (b _ _ (br_f (by decide) ⟨rfl, qi_in R⟩)))))))
  · unfold wpX_same wpY_same
    dsimp only
    exact a _ (br_t rfl (b _ _ (br_f (by decide) ⟨rfl, qi_in R⟩)))
theorem i_vc_within {k : Nat} {u : SX} {v : SY} (I : i_Rel k u v) (hk : k + 5 ≤ 2560) (v1 : Int32) (v2 : Int32) : wpX_within (fun r u' => wpY_within (fun r' => r' = r ∧ i_Rel (k + 5) u' v) v v1 v2) u v1 v2 := by
  obtain ⟨us, ch, cn, bk, iu, mk, pc, fr, ot, dr, ct, rt⟩ := u
  obtain ⟨D, he, se, rfl, R⟩ := qi_el I
  have D01 := qx_01 R
  rcases qv_pic v1 with ⟨p, hp, rfl, -, -⟩ | ⟨a, b⟩
  · rcases qv_pic v2 with ⟨q, hq, rfl, -, -⟩ | ⟨a, b⟩
    · exact qx_within R hp hq (fun h x' R' => qy_within hp hq D01 (fun _ => ⟨rfl, qi_in R'⟩) (fun z => absurd h z)) (fun h x' R' => qy_within hp hq D01 (fun z => absurd z h) (fun _ => ⟨rfl, qi_in R'⟩))
    · unfold wpX_within wpY_within
      dsimp only
      exact qx_isP hp (br_f (by decide) (a _ (br_t rfl (qy_bad hp (br_t rfl (b _ _ (br_f (by decide) ⟨rfl, qi_in R⟩)))))))
  · unfold wpX_within wpY_within
    dsimp only
    exact a _ (br_t rfl (b _ _ (br_f (by decide) ⟨rfl, qi_in R⟩)))
theorem i_vc_border {k : Nat} {u : SX} {v : SY} (I : i_Rel k u v) (hk : k + 5 ≤ 2560) (v1 : Int32) : wpX_border (fun r u' => wpY_border (fun r' => r' = r ∧ i_Rel (k + 5) u' v) v v1) u v1 := by
  obtain ⟨us, ch, cn, bk, iu, mk, pc, fr, ot, dr, ct, rt⟩ := u
  obtain ⟨D, he, se, rfl, R⟩ := qi_el I
  have D01 := qx_01 R
  rcases qv_pic v1 with ⟨p, hp, rfl, -, -⟩ | ⟨a, b⟩
  · exact qx_border R hp fun x' R' => qy_border hp D01 ⟨rfl, qi_in R'⟩
  · unfold wpX_border wpY_border
    dsimp only
    exact a _ (br_t rfl (b _ _ (br_f (by decide) ⟨rfl, qi_in R⟩)))
theorem i_vc_regions {k : Nat} {u : SX} {v : SY} (I : i_Rel k u v) (hk : k + 5 ≤ 2560) (v1 : Int32) : wpX_regions (fun r u' => wpY_regions (fun r' v' => r' = r ∧ i_Rel (k + 5) u' v') v v1) u v1 := by
  obtain ⟨us, ch, cn, bk, iu, mk, pc, fr, ot, dr, ct, rt⟩ := u
  obtain ⟨D, he, se, rfl, R⟩ := qi_el I
  have D01 := qx_01 R
  rcases qv_pic v1 with ⟨p, hp, rfl, -, -⟩ | ⟨a, b⟩
  · exact qx_regions R hp fun x' R' => qy_regions hp D01 fun se' => ⟨rfl, qi_in R'⟩
  · unfold wpX_regions wpY_regions
    dsimp only
    exact a _ (br_t rfl (b _ _ (br_f (by decide) ⟨rfl, qi_in R⟩)))
theorem i_vc_next {k : Nat} {u : SX} {v : SY} (I : i_Rel k u v) (hk : k + 5 ≤ 2560) (v1 : Int32) (v2 : Int32) : wpX_next (fun r => wpY_next (fun r' => r' = r ∧ i_Rel (k + 5) u v) v v1 v2) u v1 v2 := by
  obtain ⟨us, ch, cn, bk, iu, mk, pc, fr, ot, dr, ct, rt⟩ := u
  obtain ⟨D, he, se, rfl, R⟩ := qi_el I
  have D01 := qx_01 R
  rcases qv_pic v1 with ⟨p, hp, rfl, -, -⟩ | ⟨a, b⟩
  · have go : ∀ i, i ≤ 256 → (∀ t, t < i → nI t ≤ v2) → (∀ t, i ≤ t → t < 256 → ¬ nI t ≤ v2) → ∃ n, wX_next_31 (fun r => wpY_next (fun r' => r' = r ∧ i_Rel (k + 5) (us, ch, cn, bk, iu, mk, pc, fr, ot, dr, ct, rt) (qa_n D, he, se)) (qa_n D, he, se) (nI p) v2) (nI p) us ch cn bk iu mk pc fr ot dr ct rt n (nI i) := fun i hi lo gr =>
      qx_next31 R hp hi (fun t h1 h2 h3 h4 => qy_next12 hp D01 lo hi gr (fun s g1 g2 g3 g4 => ⟨by
          rcases Nat.lt_trichotomy s t with c | c | c
          · have := h4 s g1 c
            omega
          · rw [c]
          · have := g4 t h1 c
            omega, qi_in R⟩) (fun z => by
          have := z t h1 h2
          omega)) (fun h => qy_next12 hp D01 lo hi gr (fun s g1 g2 g3 g4 => by
          have := h s g1 g2
          omega) (fun _ => ⟨rfl, qi_in R⟩))
    unfold wpX_next
    dsimp only
    refine qx_isP hp (br_f (by decide) ?_)
    by_cases a : v2 < 255
    · refine br_t a ?_
      by_cases z : 0 ≤ v2
      · obtain ⟨j, hj, rfl⟩ := nI_of (Int32.not_lt.mpr z)
        have jl : j < 255 := (nI_ltI (b := 255) hj (by decide)).mp a
        exact br_t z (nm_r (nI_1 j) (go (j + 1) (by omega) (fun t ht => nI_le (by omega) hj) (fun t h1 h2 => nI_ge (by omega) (by omega))))
      · refine br_f z (go 0 (by omega) (fun t ht => absurd ht (by omega)) (fun t _ ht c => z (Int32.le_trans (nI_pos' (by omega)) c)))
    · refine br_f a (qy_next12 (i := 256) hp D01 (fun t ht => Int32.le_trans (nI_le (b := 255) (by omega) (by decide)) (Int32.not_lt.mp a)) (by omega) (fun t h1 h2 => absurd h2 (by omega)) (fun t h1 h2 => absurd h2 (by omega)) (fun _ => ⟨rfl, qi_in R⟩))
  · unfold wpX_next wpY_next
    dsimp only
    exact a _ (br_t rfl (b _ _ (br_f (by decide) ⟨rfl, qi_in R⟩)))
end
