section
/-! rows pasted from the kit's PURE-ROWS and BITS (a starting text), then a few of this claim's own -/
theorem pk_us {f : Nat → Int32} {k : Nat} {x : Int32} : upd f k x k = x := if_pos rfl
theorem pk_un {f : Nat → Int32} {k j : Nat} {x : Int32} (h : j ≠ k) : upd f k x j = f j := if_neg h
theorem pk_sub {a b : Nat} (h : b ≤ a) : nI a - nI b = nI (a - b) := by
  obtain ⟨c, rfl⟩ : ∃ c, a = c + b := ⟨a - b, by omega⟩
  rw [← nI_add, Int32.add_sub_cancel, Nat.add_sub_cancel]
theorem pk_m1 (n : Nat) : nI (n + 1) + (-1) = nI n := by
  rw [← nI_1, Int32.add_assoc, show (1 : Int32) + (-1) = 0 from rfl, Int32.add_zero]
theorem pk_mul (a b : Nat) : nI a * nI b = nI (a * b) := (Int32.ofNat_mul a b).symm
theorem pk_div {a d : Nat} (ha : a < 2 ^ 31) (h0 : 0 < d) (hd : d < 2 ^ 31) : nI a / nI d = nI (a / d) := by
  apply Int32.toInt_inj.mp
  rw [lg_idiv_nonneg (by rw [nI_toInt ha]; omega) (by rw [nI_toInt hd]; omega), nI_toInt ha, nI_toInt hd, nI_toInt (Nat.lt_of_le_of_lt (Nat.div_le_self a d) ha)]
  first | rfl | exact (Int.natCast_ediv _ _).symm
theorem pk_rem {a d : Nat} (ha : a < 2 ^ 31) (h0 : 0 < d) (hd : d < 2 ^ 31) : nI a - nI a / nI d * nI d = nI (a % d) := by
  rw [pk_div ha h0 hd, pk_mul, pk_sub (Nat.div_mul_le_self a d)]
  exact congrArg nI (by have := Nat.div_add_mod' a d; omega)
theorem pk_sub_toInt {a b : Nat} (ha : a < 2 ^ 30) (hb : b < 2 ^ 30) : (nI a - nI b).toInt = (a : Int) - b := by
  rw [Int32.toInt_sub, nI_toInt (by omega), nI_toInt (by omega)]
  exact Int.bmod_eq_of_le (by omega) (by omega)
theorem pk_sneg {a b : Nat} (hb : b < 2 ^ 30) (h : a < b) : nI a - nI b < 0 := by
  rw [Int32.lt_iff_toInt_lt, pk_sub_toInt (by omega) hb, show (0 : Int32).toInt = 0 from by decide]
  omega
theorem pk_ix (x : Int32) {n : Nat} (hn : n < 2 ^ 31) : x < 0 ∨ nI n ≤ x ∨ ∃ j : Nat, j < n ∧ x = nI j := by
  by_cases h : x < 0
  · exact Or.inl h
  · obtain ⟨j, hj, rfl⟩ := nI_of h
    by_cases h2 : j < n
    · exact Or.inr (Or.inr ⟨j, h2, rfl⟩)
    · exact Or.inr (Or.inl (nI_le (by omega) hj))
theorem pk_le {x y : Int32} {A B : Prop} (a b : Nat) (f : a ≤ b → A) (g : b < a → B) (hx : x = nI a := by rfl) (hy : y = nI b := by rfl) (ha : a < 2 ^ 31 := by omega) (hb : b < 2 ^ 31 := by omega) : (x ≤ y → A) ∧ (¬ x ≤ y → B) := by
  subst hx hy
  rw [nI_leI ha hb]
  exact ⟨f, fun z => g (by omega)⟩
theorem pk_lt {x y : Int32} {A B : Prop} (a b : Nat) (f : a < b → A) (g : b ≤ a → B) (hx : x = nI a := by rfl) (hy : y = nI b := by rfl) (ha : a < 2 ^ 31 := by omega) (hb : b < 2 ^ 31 := by omega) : (x < y → A) ∧ (¬ x < y → B) := by
  subst hx hy
  rw [nI_ltI ha hb]
  exact ⟨f, fun z => g (by omega)⟩
theorem pk_eq {x y : Int32} {A B : Prop} (a b : Nat) (f : a = b → A) (g : a ≠ b → B) (hx : x = nI a := by rfl) (hy : y = nI b := by rfl) (ha : a < 2 ^ 31 := by omega) (hb : b < 2 ^ 31 := by omega) : (x = y → A) ∧ (¬ x = y → B) := by
  subst hx hy
  rw [nI_eq ha hb]
  exact ⟨f, g⟩
theorem pk_in {x : Int32} (n N : Nat) (h : n < N) (hx : x = nI n := by rfl) (hN : N < 2 ^ 31 := by omega) : vp_in x N := by
  subst hx
  exact vp_in_nI h hN
theorem pk_cl {x : Int32} (n : Nat) (hx : x = nI n := by rfl) (h : n < 2 ^ 31 := by omega) : x.toNatClampNeg = n := by
  subst hx
  exact nI_clamp h
theorem pk_tn {n : Nat} (h : n < 2 ^ 32) : (nI n).toBitVec.toNat = n := Nat.mod_eq_of_lt h
theorem pk_and (x : Int32) {m : Int32} (k : Nat) (hm : m.toBitVec.toNat = 2 ^ k - 1) : x &&& m = nI (x.toBitVec.toNat % 2 ^ k) := by
  apply Int32.toBitVec_inj.mp
  apply BitVec.eq_of_toNat_eq
  rw [Int32.toBitVec_and, BitVec.toNat_and, hm, Nat.and_two_pow_sub_one_eq_mod]
  show _ = (BitVec.ofNat 32 _).toNat
  rw [BitVec.toNat_ofNat]
  exact (Nat.mod_eq_of_lt (Nat.lt_of_le_of_lt (Nat.mod_le _ _) x.toBitVec.isLt)).symm
theorem pk_andN {n : Nat} (h : n < 2 ^ 32) {m : Int32} (k : Nat) (hm : m.toBitVec.toNat = 2 ^ k - 1) : nI n &&& m = nI (n % 2 ^ k) := by
  rw [pk_and _ k hm, pk_tn h]
theorem pk_shl (a s : Int32) (k : Nat) (hs : (s.toBitVec.smod 32).toNat = k) : (a <<< s).toBitVec.toNat = a.toBitVec.toNat * 2 ^ k % 2 ^ 32 := by
  show (a.toBitVec <<< (s.toBitVec.smod 32).toNat).toNat = _
  rw [hs, BitVec.toNat_shiftLeft, Nat.shiftLeft_eq]
theorem pk_shlN {n : Nat} (s : Int32) (k : Nat) (hs : (s.toBitVec.smod 32).toNat = k) (h : n * 2 ^ k < 2 ^ 32) : nI n <<< s = nI (n * 2 ^ k) := by
  apply Int32.toBitVec_inj.mp
  apply BitVec.eq_of_toNat_eq
  have hn : n < 2 ^ 32 := Nat.lt_of_le_of_lt (Nat.le_mul_of_pos_right n (Nat.two_pow_pos k)) h
  rw [pk_shl _ _ k hs, pk_tn hn, pk_tn h, Nat.mod_eq_of_lt h]
theorem pk_shr (a s : Int32) (k : Nat) (hs : (s.toBitVec.smod 32).toNat = k) : (a >>> s).toInt = a.toInt >>> k := by
  show (a.toBitVec.sshiftRight (s.toBitVec.smod 32).toNat).toInt = _
  rw [hs, BitVec.toInt_sshiftRight]
  rfl
theorem pk_shrN {n : Nat} (h : n < 2 ^ 31) (s : Int32) (k : Nat) (hs : (s.toBitVec.smod 32).toNat = k) : nI n >>> s = nI (n / 2 ^ k) := by
  apply Int32.toInt_inj.mp
  have h2 : n / 2 ^ k ≤ n := Nat.div_le_self _ _
  rw [pk_shr _ _ k hs, nI_toInt h, nI_toInt (by omega), Int.shiftRight_eq_div_pow]
  rfl
theorem pk_vb (z : Int32) : vp_nar .byte z.toInt8.toInt32 = z.toInt8.toInt32 := by rw [vp_nar_byte]; simp
theorem pk_vs (z : Int32) : vp_nar .short z.toInt16.toInt32 = z.toInt16.toInt32 := by rw [vp_nar_short]; simp
theorem s_l : ∀ n, n < 32 → ((nI n &&& 31).toBitVec.smod 32).toNat = n := by decide +kernel
theorem nx_and (a b : Nat) : nI a &&& nI b = nI (a &&& b) := by
  apply Int32.toBitVec_inj.1
  show BitVec.ofNat 32 a &&& BitVec.ofNat 32 b = BitVec.ofNat 32 (a &&& b)
  apply BitVec.eq_of_getLsbD_eq
  intro i hi
  simp [hi]
theorem nx_xor (a b : Nat) : nI a ^^^ nI b = nI (a ^^^ b) := by
  apply Int32.toBitVec_inj.1
  show BitVec.ofNat 32 a ^^^ BitVec.ofNat 32 b = BitVec.ofNat 32 (a ^^^ b)
  apply BitVec.eq_of_getLsbD_eq
  intro i hi
  simp [hi]
theorem zb_or (a b : Nat) : nI a ||| nI b = nI (a ||| b) := by
  apply Int32.toBitVec_inj.1
  show BitVec.ofNat 32 a ||| BitVec.ofNat 32 b = BitVec.ofNat 32 (a ||| b)
  apply BitVec.eq_of_getLsbD_eq
  intro i hi
  simp [hi]
theorem zb_one {k : Nat} (hk : k < 31) : (1 : Int32) <<< (nI k &&& 31) = nI (2 ^ k) := by
  have h : 2 ^ k < 2 ^ 31 := Nat.pow_lt_pow_right (by omega) hk
  have e := pk_shlN (n := 1) (nI k &&& 31) k (s_l k (by omega)) (by omega)
  rw [Nat.one_mul] at e
  exact e
theorem zb_bit {s k : Nat} (hs : s < 2 ^ 31) (hk : k < 32) : (nI s >>> (nI k &&& 31)) &&& 1 = nI (s / 2 ^ k % 2) := by
  have h2 : s / 2 ^ k ≤ s := Nat.div_le_self _ _
  rw [pk_shrN hs _ k (s_l k hk), pk_andN (by omega) 1 (by decide), Nat.pow_one]
theorem zb_i8 : ∀ j, j < 128 → (nI j).toInt8.toInt32 = nI j := by decide +kernel
theorem zb_i16 : ∀ j, j < 128 → (nI j).toInt16.toInt32 = nI j := by decide +kernel
theorem zb_b {j : Nat} (h : j < 128) : vp_nar .byte (nI j) = nI j := by rw [vp_nar_byte, zb_i8 j h]
theorem zb_s {j : Nat} (h : j < 128) : vp_nar .short (nI j) = nI j := by rw [vp_nar_short, zb_i16 j h]
theorem zb_bb {j : Nat} (h : j < 128) : vp_nar .byte (nI j).toInt8.toInt32 = nI j := by rw [zb_i8 j h, zb_b h]
theorem zb_ss {j : Nat} (h : j < 128) : vp_nar .short (nI j).toInt16.toInt32 = nI j := by rw [zb_i16 j h, zb_s h]
theorem zb_m2 (a : Nat) : a % 2 < 2 := Nat.mod_lt _ (by omega)
end
section
/-! sums below a number and over a list -/
def zs_s (f : Nat → Nat) : Nat → Nat
  | 0 => 0
  | m + 1 => zs_s f m + f m
theorem zs_congr {f g : Nat → Nat} : ∀ {m : Nat}, (∀ i, i < m → f i = g i) → zs_s f m = zs_s g m
  | 0, _ => rfl
  | m + 1, h => by
    rw [zs_s, zs_s, zs_congr (fun i hi => h i (by omega)), h m (by omega)]
theorem zs_zero : ∀ m, zs_s (fun _ => 0) m = 0
  | 0 => rfl
  | m + 1 => by rw [zs_s, zs_zero m]
theorem zs_zero' {f : Nat → Nat} {m : Nat} (h : ∀ i, i < m → f i = 0) : zs_s f m = 0 := by
  rw [zs_congr (g := fun _ => 0) h, zs_zero]
theorem zs_add (f g : Nat → Nat) : ∀ m, zs_s (fun i => f i + g i) m = zs_s f m + zs_s g m
  | 0 => rfl
  | m + 1 => by
    simp only [zs_s]
    rw [zs_add f g m]
    omega
theorem zs_mul (a : Nat) (f : Nat → Nat) : ∀ m, zs_s (fun i => a * f i) m = a * zs_s f m
  | 0 => rfl
  | m + 1 => by
    simp only [zs_s]
    rw [zs_mul a f m, Nat.mul_add]
theorem zs_mulr (a : Nat) (f : Nat → Nat) (m : Nat) : zs_s (fun i => f i * a) m = zs_s f m * a := by
  rw [Nat.mul_comm, ← zs_mul]
  exact zs_congr (fun i _ => Nat.mul_comm _ _)
theorem zs_swap (f : Nat → Nat → Nat) (k : Nat) : ∀ m, zs_s (fun i => zs_s (fun j => f i j) k) m = zs_s (fun j => zs_s (fun i => f i j) m) k
  | 0 => by
    simp only [zs_s]
    exact (zs_zero k).symm
  | m + 1 => by
    simp only [zs_s]
    rw [zs_swap f k m, ← zs_add]
theorem zs_one {f : Nat → Nat} {a : Nat} : ∀ {m : Nat}, a < m → (∀ i, i < m → i ≠ a → f i = 0) → zs_s f m = f a
  | 0, h, _ => by omega
  | m + 1, h, h0 => by
    rw [zs_s]
    by_cases e : a = m
    · rw [zs_zero' (fun i hi => h0 i (by omega) (by omega)), e, Nat.zero_add]
    · rw [zs_one (by omega) (fun i hi hn => h0 i (by omega) hn), h0 m (by omega) (fun q => e q.symm), Nat.add_zero]
theorem zs_le {f : Nat → Nat} (b : Nat) : ∀ {m : Nat}, (∀ i, i < m → f i ≤ b) → zs_s f m ≤ m * b
  | 0, _ => by rw [zs_s]; omega
  | m + 1, h => by
    have h1 := zs_le b (fun i (hi : i < m) => h i (by omega))
    have h2 := h m (by omega)
    rw [zs_s, Nat.succ_mul]
    omega
/-- a sum over pairs, as one sum -/
theorem zs_pair (F : Nat → Nat → Nat) (n : Nat) (hn : 0 < n) : ∀ N, zs_s (fun k => F (k / n) (k % n)) (N * n) = zs_s (fun s => zs_s (fun x => F s x) n) N
  | 0 => by rw [Nat.zero_mul]; rfl
  | N + 1 => by
    have step : ∀ j, j ≤ n → zs_s (fun k => F (k / n) (k % n)) (N * n + j) = zs_s (fun k => F (k / n) (k % n)) (N * n) + zs_s (fun x => F N x) j := by
      intro j
      induction j with
      | zero => intro _; rfl
      | succ j ih =>
        intro hj
        rw [← Nat.add_assoc, zs_s, ih (by omega), zs_s]
        have e1 : (N * n + j) / n = N := by
          rw [Nat.mul_comm, Nat.mul_add_div hn, Nat.div_eq_of_lt (by omega), Nat.add_zero]
        have e2 : (N * n + j) % n = j := by
          rw [Nat.mul_comm, Nat.mul_add_mod, Nat.mod_eq_of_lt (by omega)]
        rw [e1, e2, Nat.add_assoc]
    rw [Nat.succ_mul, step n (Nat.le_refl n), zs_pair F n hn N, zs_s]
def zl_s {α : Type} (f : α → Nat) : List α → Nat
  | [] => 0
  | a :: l => f a + zl_s f l
theorem zl_congr {α : Type} {f g : α → Nat} : ∀ {l : List α}, (∀ a, a ∈ l → f a = g a) → zl_s f l = zl_s g l
  | [], _ => rfl
  | a :: l, h => by
    rw [zl_s, zl_s, h a (List.mem_cons_self ..), zl_congr (fun b hb => h b (List.mem_cons_of_mem _ hb))]
theorem zl_append {α : Type} (f : α → Nat) : ∀ l r : List α, zl_s f (l ++ r) = zl_s f l + zl_s f r
  | [], r => by rw [List.nil_append, zl_s, Nat.zero_add]
  | a :: l, r => by rw [List.cons_append, zl_s, zl_s, zl_append f l r, Nat.add_assoc]
theorem zl_map {α β : Type} (f : β → Nat) (g : α → β) : ∀ l : List α, zl_s f (l.map g) = zl_s (fun a => f (g a)) l
  | [] => rfl
  | a :: l => by rw [List.map_cons, zl_s, zl_s, zl_map f g l]
theorem zl_bind {α β : Type} (f : β → Nat) (g : α → List β) : ∀ l : List α, zl_s f (l.flatMap g) = zl_s (fun a => zl_s f (g a)) l
  | [] => rfl
  | a :: l => by rw [List.flatMap_cons, zl_append, zl_s, zl_bind f g l]
theorem zl_perm {α : Type} (f : α → Nat) {l r : List α} (h : l.Perm r) : zl_s f l = zl_s f r := by
  induction h with
  | nil => rfl
  | cons a _ ih => rw [zl_s, zl_s, ih]
  | swap a b l => simp only [zl_s]; omega
  | trans _ _ h1 h2 => rw [h1, h2]
theorem zl_mul {α : Type} (k : Nat) (f : α → Nat) : ∀ l : List α, zl_s (fun a => k * f a) l = k * zl_s f l
  | [] => rfl
  | a :: l => by rw [zl_s, zl_s, zl_mul k f l, Nat.mul_add]
theorem zl_add {α : Type} (f g : α → Nat) : ∀ l : List α, zl_s (fun a => f a + g a) l = zl_s f l + zl_s g l
  | [] => rfl
  | a :: l => by
    simp only [zl_s]
    rw [zl_add f g l]
    omega
theorem zl_zero {α : Type} : ∀ l : List α, zl_s (fun _ => 0) l = 0
  | [] => rfl
  | a :: l => by rw [zl_s, zl_zero l]
theorem zl_sum {α : Type} (f : α → Nat → Nat) (l : List α) : ∀ m, zl_s (fun a => zs_s (f a) m) l = zs_s (fun i => zl_s (fun a => f a i) l) m
  | 0 => by
    simp only [zs_s]
    exact zl_zero l
  | m + 1 => by
    simp only [zs_s]
    rw [zl_add, zl_sum f l m]
theorem zl_range (f : Nat → Nat) : ∀ m, zl_s f (List.range m) = zs_s f m
  | 0 => rfl
  | m + 1 => by
    rw [List.range_succ, zl_append, zl_range f m, zs_s, zl_s, zl_s, Nat.add_zero]
theorem zl_filter {α : Type} (f : α → Nat) (p : α → Bool) : ∀ l : List α, zl_s f (l.filter p) = zl_s (fun a => if p a then f a else 0) l
  | [] => rfl
  | a :: l => by
    by_cases h : p a = true
    · rw [List.filter_cons_of_pos h, zl_s, zl_s, zl_filter f p l, if_pos h]
    · rw [List.filter_cons_of_neg h, zl_s, zl_filter f p l, if_neg h, Nat.zero_add]
theorem zl_len {α : Type} : ∀ l : List α, zl_s (fun _ => 1) l = l.length
  | [] => rfl
  | a :: l => by rw [zl_s, zl_len l, List.length_cons, Nat.add_comm]
theorem zl_le {α : Type} (p : α → Bool) : ∀ l : List α, zl_s (fun a => if p a then 1 else 0) l ≤ l.length
  | [] => Nat.le_refl 0
  | a :: l => by
    have h := zl_le p l
    rw [zl_s, List.length_cons]
    split <;> omega
theorem zl_all {α : Type} (p : α → Bool) : ∀ l : List α, zl_s (fun a => if p a then 1 else 0) l = l.length ↔ ∀ a, a ∈ l → p a = true
  | [] => ⟨fun _ a h => (List.not_mem_nil h).elim, fun _ => rfl⟩
  | a :: l => by
    have hl := zl_le p l
    have ih := zl_all p l
    rw [zl_s, List.length_cons]
    constructor
    · intro h b hb
      by_cases hp : p a = true
      · rw [if_pos hp] at h
        rcases List.mem_cons.mp hb with e | e
        · rw [e]; exact hp
        · exact ih.mp (by omega) b e
      · rw [if_neg hp] at h
        omega
    · intro h
      rw [if_pos (h a (List.mem_cons_self ..)), ih.mpr (fun b hb => h b (List.mem_cons_of_mem _ hb)), Nat.add_comm]
/-- a map that is one to one on a list keeps it without repeats -/
theorem zl_nodup {α β : Type} {f : α → β} {l : List α} (hl : l.Nodup) (hf : ∀ a, a ∈ l → ∀ b, b ∈ l → f a = f b → a = b) : (l.map f).Nodup := by
  unfold List.Nodup at hl ⊢
  rw [List.pairwise_map]
  exact List.Pairwise.imp_of_mem (fun ha hb hn he => hn (hf _ ha _ hb he)) hl
theorem zs_inv (σ : Nat → Nat) (m : Nat) (h1 : ∀ i, i < m → σ i < m) (h2 : ∀ i, i < m → σ (σ i) = i) (f : Nat → Nat) : zs_s (fun i => f (σ i)) m = zs_s f m := by
  rw [← zl_range, ← zl_range, ← zl_map f σ]
  apply zl_perm
  rw [List.perm_ext_iff_of_nodup (zl_nodup List.nodup_range ?_) List.nodup_range]
  · intro a
    rw [List.mem_map, List.mem_range]
    constructor
    · rintro ⟨i, hi, rfl⟩
      exact h1 i (List.mem_range.mp hi)
    · intro ha
      exact ⟨σ a, List.mem_range.mpr (h1 a ha), h2 a ha⟩
  · intro a ha b hb e
    rw [← h2 a (List.mem_range.mp ha), e, h2 b (List.mem_range.mp hb)]
/-- without repeats, inside, and not shorter: the same up to order -/
theorem zl_cover {α : Type} (l : List α) : ∀ {r : List α}, l.Nodup → (∀ a, a ∈ l → a ∈ r) → r.length ≤ l.length → l.Perm r := by
  classical
  induction l with
  | nil =>
    intro r _ _ hn
    have e : r = [] := List.eq_nil_of_length_eq_zero (Nat.le_zero.mp hn)
    rw [e]
  | cons a l ih =>
    intro r hd hs hn
    have ha : a ∈ r := hs a (List.mem_cons_self ..)
    have hp : r.Perm (a :: r.erase a) := List.perm_cons_erase ha
    have hd2 := List.nodup_cons.mp hd
    have hl := hp.length_eq
    rw [List.length_cons] at hl hn
    refine List.Perm.trans (List.Perm.cons a (ih hd2.2 ?_ (by omega))) hp.symm
    intro b hb
    have hb2 : b ∈ a :: r.erase a := hp.mem_iff.mp (hs b (List.mem_cons_of_mem _ hb))
    rcases List.mem_cons.mp hb2 with e | e
    · rw [e] at hb
      exact (hd2.1 hb).elim
    · exact e
end
section
/-! words of different wires, their sets, chains -/
def zw_x (n : Nat) (w : List Nat) : List (List Nat) := ((List.range n).filter (fun x => !w.contains x)).map (fun x => x :: w)
def zw_W (n : Nat) : Nat → List (List Nat)
  | 0 => [[]]
  | m + 1 => (zw_W n m).flatMap (zw_x n)
def zw_set : List Nat → Nat
  | [] => 0
  | x :: w => zw_set w ||| 2 ^ x
theorem zw_bit : ∀ (w : List Nat) (x : Nat), (zw_set w).testBit x = w.contains x
  | [], x => by rw [zw_set, Nat.zero_testBit]; rfl
  | y :: w, x => by
    rw [zw_set, Nat.testBit_or, zw_bit w x, Nat.testBit_two_pow, List.contains_cons]
    by_cases h : y = x
    · subst h; simp
    · have h' : ¬ x = y := fun e => h e.symm
      simp [h, h']
theorem zw_bit_mem (w : List Nat) (x : Nat) : (zw_set w).testBit x = true ↔ x ∈ w := by
  rw [zw_bit, List.contains_iff_mem]
theorem zw_xs (f : List Nat → Nat) (n : Nat) (w : List Nat) : zl_s f (zw_x n w) = zs_s (fun x => if (zw_set w).testBit x then 0 else f (x :: w)) n := by
  rw [zw_x, zl_map, zl_filter, zl_range]
  apply zs_congr
  intro x _
  rw [zw_bit]
  generalize w.contains x = b
  cases b <;> rfl
def zw_pc (n s : Nat) : Nat := zs_s (fun x => (s.testBit x).toNat) n
theorem zw_or_x {s x : Nat} (hb : s.testBit x = true) : (s ^^^ 2 ^ x) ||| 2 ^ x = s := by
  apply Nat.eq_of_testBit_eq
  intro i
  rw [Nat.testBit_or, Nat.testBit_xor, Nat.testBit_two_pow]
  by_cases h : x = i
  · subst h; simp [hb]
  · simp [h]
theorem zw_xor_or {s x : Nat} (hb : s.testBit x = false) : s ^^^ 2 ^ x = s ||| 2 ^ x := by
  apply Nat.eq_of_testBit_eq
  intro i
  rw [Nat.testBit_or, Nat.testBit_xor, Nat.testBit_two_pow]
  by_cases h : x = i
  · subst h; simp [hb]
  · simp [h]
theorem zw_xor_b (s x : Nat) : (s ^^^ 2 ^ x).testBit x = !s.testBit x := by
  rw [Nat.testBit_xor, Nat.testBit_two_pow_self, Bool.xor_true]
theorem zw_pc_or {n s x : Nat} (hx : x < n) (hb : s.testBit x = false) : zw_pc n (s ||| 2 ^ x) = zw_pc n s + 1 := by
  have e : ∀ i, i < n → ((s ||| 2 ^ x).testBit i).toNat = (s.testBit i).toNat + (if i = x then 1 else 0) := by
    intro i _
    rw [Nat.testBit_or, Nat.testBit_two_pow]
    by_cases h : i = x
    · subst h; simp [hb]
    · have h' : ¬ x = i := fun q => h q.symm
      simp [h, h']
  unfold zw_pc
  rw [zs_congr e, zs_add, zs_one (f := fun i => if i = x then 1 else 0) hx (fun i _ hi => if_neg hi), if_pos rfl]
theorem zw_pc_xor {n s x : Nat} (hx : x < n) (hb : s.testBit x = true) : zw_pc n (s ^^^ 2 ^ x) + 1 = zw_pc n s := by
  rw [← zw_pc_or hx (by rw [zw_xor_b, hb]; rfl), zw_or_x hb]
theorem zs_eq0 {f : Nat → Nat} : ∀ {m : Nat}, zs_s f m = 0 → ∀ i, i < m → f i = 0
  | 0, _, i, hi => by omega
  | m + 1, h, i, hi => by
    rw [zs_s] at h
    by_cases e : i = m
    · rw [e]; omega
    · exact zs_eq0 (m := m) (by omega) i (by omega)
theorem zw_hi {n s i : Nat} (hs : s < 2 ^ n) (hi : n ≤ i) : s.testBit i = false :=
  Nat.testBit_lt_two_pow (Nat.lt_of_lt_of_le hs (Nat.pow_le_pow_right (by omega) hi))
theorem zw_pc_0 {n s : Nat} (hs : s < 2 ^ n) (h : zw_pc n s = 0) : s = 0 := by
  apply Nat.eq_of_testBit_eq
  intro i
  rw [Nat.zero_testBit]
  by_cases hi : i < n
  · have h0 := zs_eq0 h i hi
    generalize s.testBit i = b at h0
    cases b
    · rfl
    · exact absurd h0 (by decide)
  · exact zw_hi hs (by omega)
theorem zw_pc_z (n : Nat) : zw_pc n 0 = 0 := by
  unfold zw_pc
  exact zs_zero' (fun i _ => by rw [Nat.zero_testBit]; rfl)
theorem zw_pc_le (n s : Nat) : zw_pc n s ≤ n := by
  have h := zs_le (f := fun x => (s.testBit x).toNat) 1 (m := n) (fun i _ => Bool.toNat_le _)
  rw [Nat.mul_one] at h
  exact h
theorem zw_pc_lt {n s x : Nat} (hx : x < n) (hb : s.testBit x = false) : zw_pc n s < n := by
  have h := zw_pc_le n (s ||| 2 ^ x)
  rw [zw_pc_or hx hb] at h
  omega
theorem zw_pw {n x : Nat} (hx : x < n) : 2 ^ x < 2 ^ n := Nat.pow_lt_pow_right (by omega) hx
theorem zw_or_lt {n s x : Nat} (hs : s < 2 ^ n) (hx : x < n) : s ||| 2 ^ x < 2 ^ n := Nat.or_lt_two_pow hs (zw_pw hx)
theorem zw_xor_lt {n s x : Nat} (hs : s < 2 ^ n) (hx : x < n) : s ^^^ 2 ^ x < 2 ^ n := Nat.xor_lt_two_pow hs (zw_pw hx)
theorem zw_lt {n : Nat} : ∀ {w : List Nat}, (∀ x, x ∈ w → x < n) → zw_set w < 2 ^ n
  | [], _ => Nat.two_pow_pos n
  | x :: w, h => zw_or_lt (zw_lt (fun y hy => h y (List.mem_cons_of_mem _ hy))) (h x (List.mem_cons_self ..))
theorem zw_pcw {n : Nat} : ∀ {w : List Nat}, w.Nodup → (∀ x, x ∈ w → x < n) → zw_pc n (zw_set w) = w.length
  | [], _, _ => zw_pc_z n
  | x :: w, hd, h => by
    have hd2 := List.nodup_cons.mp hd
    have hb : (zw_set w).testBit x = false := by
      rw [zw_bit]
      exact Bool.eq_false_iff.mpr (fun e => hd2.1 (List.contains_iff_mem.mp e))
    rw [zw_set, zw_pc_or (h x (List.mem_cons_self ..)) hb, zw_pcw hd2.2 (fun y hy => h y (List.mem_cons_of_mem _ hy)), List.length_cons]
theorem zw_xmem {n : Nat} {w v : List Nat} : v ∈ zw_x n w ↔ ∃ x, x < n ∧ x ∉ w ∧ v = x :: w := by
  unfold zw_x
  rw [List.mem_map]
  constructor
  · rintro ⟨x, hx, rfl⟩
    rw [List.mem_filter, List.mem_range] at hx
    refine ⟨x, hx.1, fun hm => ?_, rfl⟩
    have h := hx.2
    rw [List.contains_iff_mem.mpr hm] at h
    exact absurd h (by decide)
  · rintro ⟨x, hx, hm, rfl⟩
    refine ⟨x, ?_, rfl⟩
    rw [List.mem_filter, List.mem_range]
    refine ⟨hx, ?_⟩
    have h : w.contains x = false := Bool.eq_false_iff.mpr (fun e => hm (List.contains_iff_mem.mp e))
    rw [h]; rfl
theorem zw_mem {n : Nat} : ∀ {m : Nat} {w : List Nat}, w ∈ zw_W n m → w.length = m ∧ w.Nodup ∧ (∀ x, x ∈ w → x < n)
  | 0, w, h => by
    rw [zw_W, List.mem_singleton] at h
    rw [h]
    exact ⟨rfl, List.nodup_nil, fun x hx => (List.not_mem_nil hx).elim⟩
  | m + 1, w, h => by
    rw [zw_W, List.mem_flatMap] at h
    obtain ⟨v, hv, hw⟩ := h
    obtain ⟨x, hx, hm, rfl⟩ := zw_xmem.mp hw
    obtain ⟨h1, h2, h3⟩ := zw_mem hv
    refine ⟨by rw [List.length_cons, h1], List.nodup_cons.mpr ⟨hm, h2⟩, ?_⟩
    intro y hy
    rcases List.mem_cons.mp hy with e | e
    · rw [e]; exact hx
    · exact h3 y e
theorem zw_in {n : Nat} : ∀ {w : List Nat} {m : Nat}, w.length = m → w.Nodup → (∀ x, x ∈ w → x < n) → w ∈ zw_W n m
  | [], m, hl, _, _ => by
    rw [← hl]
    exact List.mem_singleton.mpr rfl
  | x :: w, m, hl, hd, h => by
    have hd2 := List.nodup_cons.mp hd
    rw [← hl, List.length_cons, zw_W, List.mem_flatMap]
    exact ⟨w, zw_in rfl hd2.2 (fun y hy => h y (List.mem_cons_of_mem _ hy)), zw_xmem.mpr ⟨x, h x (List.mem_cons_self ..), hd2.1, rfl⟩⟩
/-- exchange of (set, x outside) and (set, x inside) -/
theorem zw_re {n x : Nat} (hx : x < n) (F : Nat → Nat → Nat) : zs_s (fun s => if s.testBit x then 0 else F (s ||| 2 ^ x) s) (2 ^ n) = zs_s (fun s => if s.testBit x then F s (s ^^^ 2 ^ x) else 0) (2 ^ n) := by
  rw [← zs_inv (fun s => s ^^^ 2 ^ x) (2 ^ n) (fun i hi => zw_xor_lt hi hx) (fun i _ => by rw [Nat.xor_assoc, Nat.xor_self, Nat.xor_zero]) (fun s => if s.testBit x then F s (s ^^^ 2 ^ x) else 0)]
  apply zs_congr
  intro s _
  show (if s.testBit x then 0 else F (s ||| 2 ^ x) s) = if (s ^^^ 2 ^ x).testBit x then F (s ^^^ 2 ^ x) ((s ^^^ 2 ^ x) ^^^ 2 ^ x) else 0
  rw [zw_xor_b, Nat.xor_assoc, Nat.xor_self, Nat.xor_zero]
  by_cases hb : s.testBit x = true
  · rw [if_pos hb, hb, if_neg (by decide)]
  · have hb' : s.testBit x = false := Bool.eq_false_iff.mpr hb
    rw [if_neg hb, hb', if_pos (by decide), zw_xor_or hb']
def zw_ok (good : Nat → Bool) : List Nat → Bool
  | [] => true
  | x :: w => good (zw_set (x :: w)) && zw_ok good w
def zw_C (n : Nat) (good : Nat → Bool) : Nat → Nat → Nat
  | 0, _ => 1
  | m + 1, s => if good s then zs_s (fun x => if s.testBit x then zw_C n good m (s ^^^ 2 ^ x) else 0) n else 0
def zw_H (n : Nat) (good : Nat → Bool) (h : Nat → Nat) (s : Nat) : Nat := zs_s (fun x => if s.testBit x then 0 else if good (s ||| 2 ^ x) then h (s ||| 2 ^ x) else 0) n
def zw_F (n : Nat) (good : Nat → Bool) (h : Nat → Nat) (m s' s : Nat) : Nat := if zw_pc n s = m then zw_C n good m s * (if good s' then h s' else 0) else 0
theorem zw_K1 (n : Nat) (good : Nat → Bool) (h : Nat → Nat) (m : Nat) : zs_s (fun s => if zw_pc n s = m then zw_C n good m s * zw_H n good h s else 0) (2 ^ n) = zs_s (fun s => if zw_pc n s = m + 1 then zw_C n good (m + 1) s * h s else 0) (2 ^ n) := by
  have e1 : ∀ s, s < 2 ^ n → (if zw_pc n s = m then zw_C n good m s * zw_H n good h s else 0) = zs_s (fun x => if s.testBit x then 0 else zw_F n good h m (s ||| 2 ^ x) s) n := by
    intro s _
    by_cases hp : zw_pc n s = m
    · rw [if_pos hp, zw_H, ← zs_mul]
      apply zs_congr
      intro x _
      by_cases hb : s.testBit x = true
      · rw [if_pos hb, if_pos hb, Nat.mul_zero]
      · rw [if_neg hb, if_neg hb, zw_F, if_pos hp]
    · rw [if_neg hp]
      symm
      apply zs_zero'
      intro x _
      by_cases hb : s.testBit x = true
      · rw [if_pos hb]
      · rw [if_neg hb, zw_F, if_neg hp]
  have e2 : ∀ x, x < n → zs_s (fun s => if s.testBit x then 0 else zw_F n good h m (s ||| 2 ^ x) s) (2 ^ n) = zs_s (fun s => if s.testBit x then zw_F n good h m s (s ^^^ 2 ^ x) else 0) (2 ^ n) := fun x hx => zw_re hx _
  rw [zs_congr e1, zs_swap (fun s x => if s.testBit x then 0 else zw_F n good h m (s ||| 2 ^ x) s), zs_congr e2, zs_swap (fun x s => if s.testBit x then zw_F n good h m s (s ^^^ 2 ^ x) else 0)]
  apply zs_congr
  intro s _
  by_cases hp : zw_pc n s = m + 1
  · rw [if_pos hp, zw_C]
    by_cases hg : good s = true
    · rw [if_pos hg, ← zs_mulr]
      apply zs_congr
      intro x hx
      by_cases hb : s.testBit x = true
      · have h1 := zw_pc_xor hx hb
        rw [if_pos hb, if_pos hb, zw_F, if_pos (by omega), if_pos hg]
      · rw [if_neg hb, if_neg hb, Nat.zero_mul]
    · rw [if_neg hg, Nat.zero_mul]
      apply zs_zero'
      intro x _
      by_cases hb : s.testBit x = true
      · rw [if_pos hb, zw_F, if_neg hg, Nat.mul_zero]
        split <;> rfl
      · rw [if_neg hb]
  · rw [if_neg hp]
    apply zs_zero'
    intro x hx
    by_cases hb : s.testBit x = true
    · have h1 := zw_pc_xor hx hb
      rw [if_pos hb, zw_F, if_neg (by omega)]
    · rw [if_neg hb]
/-- LAW K: a sum over good words is a sum over sets, by chains -/
theorem zw_K (n : Nat) (good : Nat → Bool) : ∀ (m : Nat) (h : Nat → Nat), zl_s (fun w => if zw_ok good w then h (zw_set w) else 0) (zw_W n m) = zs_s (fun s => if zw_pc n s = m then zw_C n good m s * h s else 0) (2 ^ n)
  | 0, h => by
    rw [zs_one (a := 0) (Nat.two_pow_pos n) (fun s hs hne => if_neg (fun e => hne (zw_pc_0 hs e))), if_pos (zw_pc_z n), zw_C, Nat.one_mul]
    rfl
  | m + 1, h => by
    have e1 : ∀ w, w ∈ zw_W n m → zl_s (fun w => if zw_ok good w then h (zw_set w) else 0) (zw_x n w) = if zw_ok good w then zw_H n good h (zw_set w) else 0 := by
      intro w _
      rw [zw_xs]
      by_cases hw : zw_ok good w = true
      · rw [if_pos hw, zw_H]
        apply zs_congr
        intro x _
        by_cases hb : (zw_set w).testBit x = true
        · rw [if_pos hb, if_pos hb]
        · rw [if_neg hb, if_neg hb, zw_ok, hw, Bool.and_true, zw_set]
      · rw [if_neg hw]
        apply zs_zero'
        intro x _
        by_cases hb : (zw_set w).testBit x = true
        · rw [if_pos hb]
        · rw [if_neg hb, zw_ok, Bool.eq_false_iff.mpr hw, Bool.and_false, if_neg (by decide)]
    rw [zw_W, zl_bind, zl_congr e1, zw_K n good m (zw_H n good h), zw_K1]
def zw_f : Nat → Nat
  | 0 => 1
  | k + 1 => zw_f k * (k + 1)
theorem zw_Ct (n : Nat) : ∀ (m s : Nat), zw_pc n s = m → zw_C n (fun _ => true) m s = zw_f m
  | 0, _, _ => rfl
  | m + 1, s, hp => by
    rw [zw_C, if_pos rfl, zw_f]
    have e : ∀ x, x < n → (if s.testBit x then zw_C n (fun _ => true) m (s ^^^ 2 ^ x) else 0) = zw_f m * (s.testBit x).toNat := by
      intro x hx
      by_cases hb : s.testBit x = true
      · have h1 := zw_pc_xor hx hb
        rw [if_pos hb, hb, zw_Ct n m _ (by omega)]
        exact (Nat.mul_one _).symm
      · rw [if_neg hb, Bool.eq_false_iff.mpr hb]
        exact (Nat.mul_zero _).symm
    rw [zs_congr e, zs_mul]
    have hp' : zs_s (fun x => (s.testBit x).toNat) n = m + 1 := hp
    rw [hp']
theorem zs_const (a : Nat) : ∀ m, zs_s (fun _ => a) m = m * a
  | 0 => by rw [zs_s, Nat.zero_mul]
  | m + 1 => by rw [zs_s, zs_const a m, Nat.succ_mul]
theorem zw_cnt (n s a : Nat) : zs_s (fun x => if s.testBit x then 0 else a) n = (n - zw_pc n s) * a := by
  have h : zs_s (fun x => if s.testBit x then 0 else a) n + zw_pc n s * a = n * a := by
    rw [zw_pc, ← zs_mulr, ← zs_add, ← zs_const a n]
    apply zs_congr
    intro x _
    generalize s.testBit x = b
    cases b
    · show a + 0 * a = a
      omega
    · show 0 + 1 * a = a
      omega
  rw [Nat.sub_mul]
  omega
def zw_fl (a : Nat) : Nat → Nat
  | 0 => 1
  | t + 1 => (a - t) * zw_fl a t
theorem zw_fl_s (a : Nat) : ∀ t, zw_fl (a + 1) (t + 1) = (a + 1) * zw_fl a t
  | 0 => rfl
  | t + 1 => by
    rw [zw_fl, zw_fl_s a t, zw_fl, Nat.add_sub_add_right, Nat.mul_left_comm]
theorem zw_fl_f : ∀ t, zw_fl t t = zw_f t
  | 0 => rfl
  | t + 1 => by rw [zw_fl_s, zw_fl_f t, zw_f, Nat.mul_comm]
theorem zw_ext (n m : Nat) (q : List Nat → Nat) : ∀ t, zl_s (fun w => q (w.drop t)) (zw_W n (m + t)) = zw_fl (n - m) t * zl_s q (zw_W n m)
  | 0 => by
    rw [zw_fl, Nat.one_mul]
    rfl
  | t + 1 => by
    have e : ∀ w, w ∈ zw_W n (m + t) → zl_s (fun w => q (w.drop (t + 1))) (zw_x n w) = (n - m - t) * q (w.drop t) := by
      intro w hw
      obtain ⟨h1, h2, h3⟩ := zw_mem hw
      rw [zw_xs]
      have e2 := zw_cnt n (zw_set w) (q (w.drop t))
      rw [zw_pcw h2 h3, h1, Nat.sub_add_eq] at e2
      rw [← e2]
      rfl
    show zl_s (fun w => q (w.drop (t + 1))) (zw_W n (m + t + 1)) = _
    rw [zw_W, zl_bind, zl_congr e, zl_mul, zw_ext n m q t, zw_fl, Nat.mul_assoc]
theorem zw_len (n : Nat) : (zw_W n n).length = zw_f n := by
  have h := zw_ext n 0 (fun _ => 1) n
  rw [Nat.zero_add, Nat.sub_zero, zw_fl_f, zl_len, zl_len, zw_W] at h
  rw [h]
  exact Nat.mul_one _
def zw_R (n : Nat) (Q : Nat → Nat → Nat) (s : Nat) : Nat := zs_s (fun x => if s.testBit x then 0 else Q s x) n
theorem zw_okt : ∀ w, zw_ok (fun _ => true) w = true
  | [] => rfl
  | x :: w => by rw [zw_ok, zw_okt w]; rfl
theorem zw_M1 (n : Nat) (Q : Nat → Nat → Nat) (t : Nat) (ht : t < n) : zl_s (fun w => Q (zw_set (w.drop (t + 1))) (w.getD t 0)) (zw_W n n) = zs_s (fun s => if zw_pc n s = n - 1 - t then zw_f (n - 1 - t) * zw_f t * zw_R n Q s else 0) (2 ^ n) := by
  obtain ⟨m, hm⟩ : ∃ m, n = m + 1 + t := ⟨n - 1 - t, by omega⟩
  have hm1 : n - 1 - t = m := by omega
  have hm2 : n - (m + 1) = t := by omega
  have e := zw_ext n (m + 1) (fun v => Q (zw_set v.tail) (v.headD 0)) t
  rw [← hm, hm2, zw_fl_f] at e
  have e0 : ∀ w, w ∈ zw_W n n → Q (zw_set (w.drop (t + 1))) (w.getD t 0) = Q (zw_set (w.drop t).tail) ((w.drop t).headD 0) := by
    intro w _
    rw [List.tail_drop, List.headD_eq_head?_getD, List.head?_drop, List.getD_eq_getElem?_getD]
  have e1 : ∀ v, v ∈ zw_W n m → zl_s (fun v => Q (zw_set v.tail) (v.headD 0)) (zw_x n v) = if zw_ok (fun _ => true) v then zw_R n Q (zw_set v) else 0 := by
    intro v _
    rw [zw_xs, if_pos (zw_okt v), zw_R]
    rfl
  rw [zl_congr e0, e, zw_W, zl_bind, zl_congr e1, zw_K, ← zs_mul, hm1]
  apply zs_congr
  intro s _
  by_cases hp : zw_pc n s = m
  · rw [if_pos hp, if_pos hp, zw_Ct n m s hp, ← Nat.mul_assoc, Nat.mul_comm (zw_f t)]
  · rw [if_neg hp, if_neg hp, Nat.mul_zero]
/-- LAW M: a sum over the steps of all full words is a weighted sum over (set, wire outside) -/
theorem zw_M (n : Nat) (Q : Nat → Nat → Nat) : zl_s (fun w => zs_s (fun t => Q (zw_set (w.drop (t + 1))) (w.getD t 0)) n) (zw_W n n) = zs_s (fun s => zs_s (fun x => if s.testBit x then 0 else Q s x * (zw_f (zw_pc n s) * zw_f (n - 1 - zw_pc n s))) n) (2 ^ n) := by
  rw [zl_sum (fun (w : List Nat) t => Q (zw_set (w.drop (t + 1))) (w.getD t 0)), zs_congr (zw_M1 n Q), zs_swap (fun t s => if zw_pc n s = n - 1 - t then zw_f (n - 1 - t) * zw_f t * zw_R n Q s else 0)]
  apply zs_congr
  intro s _
  by_cases hp : zw_pc n s < n
  · rw [zs_one (a := n - 1 - zw_pc n s) (by omega) (fun i hi hne => if_neg (by omega)), if_pos (by omega)]
    have e3 : n - 1 - (n - 1 - zw_pc n s) = zw_pc n s := by omega
    rw [e3, zw_R, Nat.mul_comm, ← zs_mulr]
    apply zs_congr
    intro x _
    by_cases hb : s.testBit x = true
    · rw [if_pos hb, if_pos hb, Nat.zero_mul]
    · rw [if_neg hb, if_neg hb]
  · rw [zs_zero' (fun t ht => if_neg (by omega))]
    symm
    apply zs_zero'
    intro x hx
    by_cases hb : s.testBit x = true
    · rw [if_pos hb]
    · exact absurd (zw_pc_lt hx (Bool.eq_false_iff.mpr hb)) hp
end
section
/-! the net on numbers and on sets; thresholds -/
def zt_cp (p : Nat → Nat) (i j : Nat) : Nat → Nat := fun x => if p j < p i then (if x = j then p i else if x = i then p j else p x) else p x
def zt_ps (lo hi : Nat → Nat) (sk : Nat → Bool) : Nat → (Nat → Nat) → Nat → Nat
  | 0, p => p
  | m + 1, p => if sk m then zt_ps lo hi sk m p else zt_cp (zt_ps lo hi sk m p) (lo m) (hi m)
def zt_st (s i j : Nat) : Nat := if s / 2 ^ i % 2 ≤ s / 2 ^ j % 2 then s else s ^^^ (2 ^ i ||| 2 ^ j)
def zt_run (lo hi : Nat → Nat) (sk : Nat → Bool) : Nat → Nat → Nat
  | 0, s => s
  | m + 1, s => if sk m then zt_run lo hi sk m s else zt_st (zt_run lo hi sk m s) (lo m) (hi m)
def zt_th (p : Nat → Nat) (t : Nat) : Nat → Nat
  | 0 => 0
  | m + 1 => if t < p m then zt_th p t m ||| 2 ^ m else zt_th p t m
theorem zt_thb (p : Nat → Nat) (t x : Nat) : ∀ m, (zt_th p t m).testBit x = true ↔ x < m ∧ t < p x
  | 0 => by
    rw [zt_th, Nat.zero_testBit]
    exact ⟨fun h => absurd h (by decide), fun h => absurd h.1 (by omega)⟩
  | m + 1 => by
    have ih := zt_thb p t x m
    rw [zt_th]
    by_cases h : t < p m
    · rw [if_pos h, Nat.testBit_or, Bool.or_eq_true, ih, Nat.testBit_two_pow, decide_eq_true_eq]
      constructor
      · rintro (⟨h1, h2⟩ | h1)
        · exact ⟨by omega, h2⟩
        · subst h1; exact ⟨by omega, h⟩
      · rintro ⟨h1, h2⟩
        by_cases e : m = x
        · exact Or.inr e
        · exact Or.inl ⟨by omega, h2⟩
    · rw [if_neg h, ih]
      constructor
      · rintro ⟨h1, h2⟩
        exact ⟨by omega, h2⟩
      · rintro ⟨h1, h2⟩
        by_cases e : m = x
        · subst e; exact absurd h2 h
        · exact ⟨by omega, h2⟩
theorem zt_bd (s i : Nat) : s / 2 ^ i % 2 = if s.testBit i = true then 1 else 0 := by
  rw [← Nat.toNat_testBit]
  generalize s.testBit i = b
  cases b <;> rfl
theorem zt_stb {s i j x : Nat} (hij : i ≠ j) : (zt_st s i j).testBit x = true ↔ if (s.testBit i = true ∧ ¬ s.testBit j = true) then (x ≠ i ∧ (x = j ∨ s.testBit x = true)) else s.testBit x = true := by
  unfold zt_st
  rw [zt_bd, zt_bd]
  by_cases h1 : s.testBit i = true
  · by_cases h2 : s.testBit j = true
    · rw [if_pos h1, if_pos h2, if_pos (Nat.le_refl 1), if_neg (fun h => h.2 h2)]
    · rw [if_pos h1, if_neg h2, if_neg (by omega), if_pos ⟨h1, h2⟩, Nat.testBit_xor, Nat.testBit_or, Nat.testBit_two_pow, Nat.testBit_two_pow]
      have h2' : s.testBit j = false := Bool.eq_false_iff.mpr h2
      by_cases e1 : x = i
      · subst e1
        simp [h1]
      · by_cases e2 : x = j
        · subst e2
          simp [h2', hij, e1]
        · have e1' : ¬ i = x := fun q => e1 q.symm
          have e2' : ¬ j = x := fun q => e2 q.symm
          simp [e1, e2, e1', e2']
  · rw [if_neg h1, if_pos (by omega), if_neg (fun h => h1 h.1)]
theorem zt_comm {n : Nat} {p : Nat → Nat} {i j t : Nat} (hi : i < n) (hj : j < n) (hij : i ≠ j) : zt_th (zt_cp p i j) t n = zt_st (zt_th p t n) i j := by
  apply Nat.eq_of_testBit_eq
  intro x
  rw [Bool.eq_iff_iff, zt_thb, zt_stb hij]
  simp only [zt_thb]
  by_cases h1 : p j < p i
  · by_cases e1 : x = j
    · subst e1
      have e : zt_cp p i x x = p i := by unfold zt_cp; rw [if_pos h1, if_pos rfl]
      rw [e]
      by_cases h2 : (i < n ∧ t < p i) ∧ ¬ (x < n ∧ t < p x)
      · rw [if_pos h2]
        exact ⟨fun h => ⟨fun q => hij q.symm, Or.inl rfl⟩, fun h => ⟨hj, h2.1.2⟩⟩
      · rw [if_neg h2]
        constructor
        · rintro ⟨a, b⟩
          exact ⟨a, Classical.byContradiction fun q => h2 ⟨⟨hi, b⟩, fun q2 => q q2.2⟩⟩
        · rintro ⟨a, b⟩
          exact ⟨a, by omega⟩
    · by_cases e2 : x = i
      · subst e2
        have e : zt_cp p x j x = p j := by unfold zt_cp; rw [if_pos h1, if_neg e1, if_pos rfl]
        rw [e]
        by_cases h2 : (x < n ∧ t < p x) ∧ ¬ (j < n ∧ t < p j)
        · rw [if_pos h2]
          exact ⟨fun h => absurd ⟨hj, h.2⟩ h2.2, fun h => absurd rfl h.1⟩
        · rw [if_neg h2]
          constructor
          · rintro ⟨a, b⟩
            exact ⟨a, by omega⟩
          · rintro ⟨a, b⟩
            exact ⟨a, Classical.byContradiction fun q => h2 ⟨⟨a, b⟩, fun q2 => q q2.2⟩⟩
      · have e : zt_cp p i j x = p x := by unfold zt_cp; rw [if_pos h1, if_neg e1, if_neg e2]
        rw [e]
        split
        · exact ⟨fun h => ⟨e2, Or.inr h⟩, fun h => h.2.resolve_left e1⟩
        · exact Iff.rfl
  · have e : zt_cp p i j x = p x := by unfold zt_cp; rw [if_neg h1]
    rw [e, if_neg (fun h => h.2 ⟨hj, by omega⟩)]
theorem zt_runth {n : Nat} {lo hi : Nat → Nat} (sk : Nat → Bool) (p : Nat → Nat) (t : Nat) : ∀ {m : Nat}, (∀ k, k < m → lo k < n ∧ hi k < n ∧ lo k ≠ hi k) → zt_th (zt_ps lo hi sk m p) t n = zt_run lo hi sk m (zt_th p t n)
  | 0, _ => rfl
  | m + 1, h => by
    have ih := zt_runth sk p t (fun k (hk : k < m) => h k (by omega))
    obtain ⟨h1, h2, h3⟩ := h m (by omega)
    rw [zt_ps, zt_run]
    by_cases hs : sk m = true
    · rw [if_pos hs, if_pos hs, ih]
    · rw [if_neg hs, if_neg hs, zt_comm h1 h2 h3, ih]
/-- whatever holds of all values below n holds behind the net -/
theorem zt_all {n : Nat} {lo hi : Nat → Nat} (sk : Nat → Bool) {P : Nat → Prop} {p : Nat → Nat} (hp : ∀ x, x < n → P (p x)) : ∀ {m : Nat}, (∀ k, k < m → lo k < n ∧ hi k < n) → ∀ x, x < n → P (zt_ps lo hi sk m p x)
  | 0, _, x, hx => hp x hx
  | m + 1, h, x, hx => by
    have ih := zt_all sk hp (fun k (hk : k < m) => h k (by omega))
    obtain ⟨h1, h2⟩ := h m (by omega)
    rw [zt_ps]
    by_cases hs : sk m = true
    · rw [if_pos hs]; exact ih x hx
    · rw [if_neg hs]
      unfold zt_cp
      split
      · split
        · exact ih _ h1
        · split
          · exact ih _ h2
          · exact ih x hx
      · exact ih x hx
theorem zt_cong {n : Nat} {lo hi : Nat → Nat} (sk : Nat → Bool) {p q : Nat → Nat} (hp : ∀ x, x < n → p x = q x) : ∀ {m : Nat}, (∀ k, k < m → lo k < n ∧ hi k < n) → ∀ x, x < n → zt_ps lo hi sk m p x = zt_ps lo hi sk m q x
  | 0, _, x, hx => hp x hx
  | m + 1, h, x, hx => by
    have ih := zt_cong sk hp (fun k (hk : k < m) => h k (by omega))
    obtain ⟨h1, h2⟩ := h m (by omega)
    rw [zt_ps, zt_ps]
    by_cases hs : sk m = true
    · rw [if_pos hs, if_pos hs]; exact ih x hx
    · rw [if_neg hs, if_neg hs]
      unfold zt_cp
      rw [ih x hx, ih _ h1, ih _ h2]
theorem zt_same {n : Nat} {p q : Nat → Nat} (h : ∀ t, zt_th p t n = zt_th q t n) : ∀ x, x < n → p x = q x := by
  intro x hx
  have h1 := zt_thb p (q x) x n
  have h2 := zt_thb q (p x) x n
  have h3 := zt_thb q (q x) x n
  have h4 := zt_thb p (p x) x n
  rw [h (q x), h3] at h1
  rw [← h (p x), h4] at h2
  by_cases a : q x < p x
  · have := h1.mpr ⟨hx, a⟩
    omega
  · by_cases b : p x < q x
    · have := h2.mpr ⟨hx, b⟩
      omega
    · omega
theorem zt_thc {n t : Nat} {p q : Nat → Nat} (h : ∀ x, x < n → p x = q x) : zt_th p t n = zt_th q t n := by
  apply Nat.eq_of_testBit_eq
  intro x
  rw [Bool.eq_iff_iff, zt_thb, zt_thb]
  constructor
  · rintro ⟨a, b⟩
    exact ⟨a, by rw [← h x a]; exact b⟩
  · rintro ⟨a, b⟩
    exact ⟨a, by rw [h x a]; exact b⟩
theorem zt_top {n t : Nat} (h : t ≤ n) (x : Nat) : (2 ^ n - 2 ^ t).testBit x = true ↔ t ≤ x ∧ x < n := by
  have e : 2 ^ n - 2 ^ t = (2 ^ (n - t) - 1) * 2 ^ t := by
    rw [Nat.sub_mul, ← Nat.pow_add, Nat.one_mul]
    congr 2
    omega
  rw [e, Nat.testBit_mul_two_pow, Nat.testBit_two_pow_sub_one, Bool.and_eq_true, decide_eq_true_eq, decide_eq_true_eq]
  omega
/-! words as orders: the wire at place i has the number i + 1 -/
def zt_P (w : List Nat) : Nat → Nat := fun x => w.idxOf x + 1
theorem zt_full {n : Nat} {w : List Nat} (hw : w ∈ zw_W n n) {x : Nat} (hx : x < n) : x ∈ w := by
  obtain ⟨h1, h2, h3⟩ := zw_mem hw
  refine Classical.byContradiction fun hm => ?_
  have hd : (x :: w).Nodup := List.nodup_cons.mpr ⟨hm, h2⟩
  have hl := List.Nodup.length_le_of_subset (l₂ := List.range n) hd (fun y hy => by
    rcases List.mem_cons.mp hy with e | e
    · rw [e]; exact List.mem_range.mpr hx
    · exact List.mem_range.mpr (h3 y e))
  rw [List.length_cons, List.length_range, h1] at hl
  omega
theorem zt_rng {n : Nat} {w : List Nat} (hw : w ∈ zw_W n n) {x : Nat} (hx : x < n) : 1 ≤ zt_P w x ∧ zt_P w x ≤ n := by
  have h := List.idxOf_lt_length_of_mem (zt_full hw hx)
  rw [(zw_mem hw).1] at h
  unfold zt_P
  omega
theorem zt_drop {w : List Nat} (hd : w.Nodup) {t x : Nat} : x ∈ w.drop t ↔ x ∈ w ∧ t ≤ w.idxOf x := by
  rw [List.mem_drop_iff_getElem]
  constructor
  · rintro ⟨j, hj, rfl⟩
    refine ⟨List.getElem_mem _, ?_⟩
    rw [List.Nodup.idxOf_getElem hd]
    omega
  · rintro ⟨hm, ht⟩
    have hl := List.idxOf_lt_length_of_mem hm
    have e : t + (w.idxOf x - t) = w.idxOf x := by omega
    refine ⟨w.idxOf x - t, by omega, ?_⟩
    simp only [e]
    exact List.getElem_idxOf hl
theorem zt_thw {n : Nat} {w : List Nat} (hw : w ∈ zw_W n n) (t : Nat) : zt_th (zt_P w) t n = zw_set (w.drop t) := by
  obtain ⟨h1, h2, h3⟩ := zw_mem hw
  apply Nat.eq_of_testBit_eq
  intro x
  rw [Bool.eq_iff_iff, zt_thb, zw_bit_mem, zt_drop h2]
  unfold zt_P
  constructor
  · rintro ⟨a, b⟩
    exact ⟨zt_full hw a, by omega⟩
  · rintro ⟨a, b⟩
    exact ⟨h3 x a, by omega⟩
theorem zt_cons {n : Nat} {w : List Nat} (hw : w ∈ zw_W n n) {t : Nat} (ht : t < n) : zw_set (w.drop (t + 1)) ||| 2 ^ (w.getD t 0) = zw_set (w.drop t) := by
  have hl : t < w.length := by rw [(zw_mem hw).1]; exact ht
  rw [List.drop_eq_getElem_cons hl, zw_set, List.getD_eq_getElem?_getD, List.getElem?_eq_getElem hl]
  rfl
theorem zt_pcd {n : Nat} {w : List Nat} (hw : w ∈ zw_W n n) (t : Nat) : zw_pc n (zw_set (w.drop t)) = n - t := by
  obtain ⟨h1, h2, h3⟩ := zw_mem hw
  rw [zw_pcw (List.Nodup.sublist (List.drop_sublist t w) h2) (fun x hx => h3 x (List.mem_of_mem_drop hx)), List.length_drop, h1]
end
section
/-! what is counted over all orders, by sets -/
def zc_hc (n c : Nat) (lo hi : Nat → Nat) : Prop := ∀ k, k < c → lo k < n ∧ hi k < n ∧ lo k ≠ hi k
theorem zc_h2 {n c : Nat} {lo hi : Nat → Nat} (hc : zc_hc n c lo hi) : ∀ k, k < c → lo k < n ∧ hi k < n := fun k hk => ⟨(hc k hk).1, (hc k hk).2.1⟩
section
variable {n c : Nat} {lo hi : Nat → Nat} (sk : Nat → Bool)
theorem zc_out (hc : zc_hc n c lo hi) {w : List Nat} (hw : w ∈ zw_W n n) (v t : Nat) : (zt_run lo hi sk c (zw_set (w.drop t))).testBit v = true ↔ v < n ∧ t < zt_ps lo hi sk c (zt_P w) v := by
  rw [← zt_thw hw, ← zt_runth sk _ t hc, zt_thb]
theorem zc_rng (hc : zc_hc n c lo hi) {w : List Nat} (hw : w ∈ zw_W n n) {x : Nat} (hx : x < n) : 1 ≤ zt_ps lo hi sk c (zt_P w) x ∧ zt_ps lo hi sk c (zt_P w) x ≤ n :=
  zt_all sk (P := fun y => 1 ≤ y ∧ y ≤ n) (fun x hx => zt_rng hw hx) (zc_h2 hc) x hx
def zc_Qr (n c : Nat) (lo hi : Nat → Nat) (sk : Nat → Bool) (v r s x : Nat) : Nat := if zw_pc n s = n - r ∧ (zt_run lo hi sk c s).testBit v ≠ (zt_run lo hi sk c (s ||| 2 ^ x)).testBit v then 1 else 0
theorem zc_ranks (hc : zc_hc n c lo hi) {v r : Nat} (hv : v < n) (h1 : 1 ≤ r) (h2 : r ≤ n) : zl_s (fun w => if zt_ps lo hi sk c (zt_P w) v = r then 1 else 0) (zw_W n n) = zs_s (fun s => zs_s (fun x => if s.testBit x then 0 else zc_Qr n c lo hi sk v r s x * (zw_f (zw_pc n s) * zw_f (n - 1 - zw_pc n s))) n) (2 ^ n) := by
  rw [← zw_M]
  apply zl_congr
  intro w hw
  rw [zs_one (a := r - 1) (by omega) ?_]
  · have e : r - 1 + 1 = r := by omega
    have b1 := zc_out sk hc hw v r
    have b2 := zc_out sk hc hw v (r - 1)
    unfold zc_Qr
    rw [zt_cons hw (by omega), e, zt_pcd hw]
    generalize zt_ps lo hi sk c (zt_P w) v = o at b1 b2 ⊢
    generalize (zt_run lo hi sk c (zw_set (w.drop r))).testBit v = B1 at b1 ⊢
    generalize (zt_run lo hi sk c (zw_set (w.drop (r - 1)))).testBit v = B2 at b2 ⊢
    by_cases ho : o = r
    · rw [if_pos ho, if_pos]
      refine ⟨rfl, fun q => ?_⟩
      have h3 : B2 = true := b2.mpr ⟨hv, by omega⟩
      rw [← q] at h3
      have h4 := b1.mp h3
      omega
    · rw [if_neg ho, if_neg]
      rintro ⟨_, q⟩
      apply q
      rw [Bool.eq_iff_iff, b1, b2]
      constructor
      · rintro ⟨a, b⟩
        exact ⟨a, by omega⟩
      · rintro ⟨a, b⟩
        exact ⟨a, by omega⟩
  · intro t ht hne
    unfold zc_Qr
    rw [zt_pcd hw, if_neg]
    rintro ⟨q, _⟩
    omega
def zc_Ql (c : Nat) (lo hi : Nat → Nat) (sk : Nat → Bool) (v u s x : Nat) : Nat := if (zt_run lo hi sk c s).testBit u = false ∧ (zt_run lo hi sk c (s ||| 2 ^ x)).testBit u = true ∧ (zt_run lo hi sk c (s ||| 2 ^ x)).testBit v = false then 1 else 0
theorem zc_less (hc : zc_hc n c lo hi) {v u : Nat} (hv : v < n) (hu : u < n) : zl_s (fun w => if zt_ps lo hi sk c (zt_P w) v < zt_ps lo hi sk c (zt_P w) u then 1 else 0) (zw_W n n) = zs_s (fun s => zs_s (fun x => if s.testBit x then 0 else zc_Ql c lo hi sk v u s x * (zw_f (zw_pc n s) * zw_f (n - 1 - zw_pc n s))) n) (2 ^ n) := by
  rw [← zw_M]
  apply zl_congr
  intro w hw
  have key : ∀ t, t < n → zc_Ql c lo hi sk v u (zw_set (w.drop (t + 1))) (w.getD t 0) = if zt_ps lo hi sk c (zt_P w) u = t + 1 ∧ zt_ps lo hi sk c (zt_P w) v ≤ t then 1 else 0 := by
    intro t ht
    unfold zc_Ql
    rw [zt_cons hw ht]
    have b1 := zc_out sk hc hw u (t + 1)
    have b2 := zc_out sk hc hw u t
    have b3 := zc_out sk hc hw v t
    generalize zt_ps lo hi sk c (zt_P w) u = ou at b1 b2 ⊢
    generalize zt_ps lo hi sk c (zt_P w) v = ov at b3 ⊢
    generalize (zt_run lo hi sk c (zw_set (w.drop (t + 1)))).testBit u = B1 at b1 ⊢
    generalize (zt_run lo hi sk c (zw_set (w.drop t))).testBit u = B2 at b2 ⊢
    generalize (zt_run lo hi sk c (zw_set (w.drop t))).testBit v = B3 at b3 ⊢
    by_cases ho : ou = t + 1 ∧ ov ≤ t
    · rw [if_pos ho, if_pos]
      refine ⟨Bool.eq_false_iff.mpr fun q => ?_, b2.mpr ⟨hu, by omega⟩, Bool.eq_false_iff.mpr fun q => ?_⟩
      · have := b1.mp q
        omega
      · have := b3.mp q
        omega
    · rw [if_neg ho, if_neg]
      rintro ⟨q1, q2, q3⟩
      have h2 := b2.mp q2
      apply ho
      refine ⟨?_, ?_⟩
      · refine Classical.byContradiction fun hn => ?_
        have := b1.mpr ⟨hu, by omega⟩
        rw [q1] at this
        exact absurd this (by decide)
      · refine Classical.byContradiction fun hn => ?_
        have := b3.mpr ⟨hv, by omega⟩
        rw [q3] at this
        exact absurd this (by decide)
  rw [zs_congr key]
  have hr := zc_rng sk hc hw hu
  generalize zt_ps lo hi sk c (zt_P w) u = ou at hr ⊢
  generalize zt_ps lo hi sk c (zt_P w) v = ov
  by_cases ho : ov < ou
  · rw [if_pos ho, zs_one (a := ou - 1) (by omega) (fun i _ hi => if_neg (by omega)), if_pos (by omega)]
  · rw [if_neg ho, zs_zero' (fun i _ => if_neg (by omega))]
def zc_good (n c : Nat) (lo hi : Nat → Nat) (sk : Nat → Bool) (s : Nat) : Bool := zt_run lo hi sk c s == 2 ^ n - 2 ^ (n - zw_pc n s)
def zc_so (n : Nat) (f : Nat → Nat) : Bool := decide (∀ x, x < n → f x = x + 1)
theorem zc_okd (good : Nat → Bool) : ∀ w : List Nat, zw_ok good w = true ↔ ∀ t, t < w.length → good (zw_set (w.drop t)) = true
  | [] => ⟨fun _ t ht => absurd ht (Nat.not_lt_zero t), fun _ => rfl⟩
  | x :: w => by
    rw [zw_ok, Bool.and_eq_true, zc_okd good w]
    constructor
    · rintro ⟨a, b⟩ t ht
      cases t with
      | zero => exact a
      | succ t => exact b t (Nat.lt_of_succ_lt_succ ht)
    · intro h
      exact ⟨h 0 (Nat.succ_pos _), fun t ht => h (t + 1) (Nat.succ_lt_succ ht)⟩
theorem zc_key (hc : zc_hc n c lo hi) {w : List Nat} (hw : w ∈ zw_W n n) {t : Nat} (ht : t ≤ n) : zc_good n c lo hi sk (zw_set (w.drop t)) = true ↔ ∀ x, x < n → (t < zt_ps lo hi sk c (zt_P w) x ↔ t ≤ x) := by
  have e : n - (n - t) = t := by omega
  unfold zc_good
  rw [beq_iff_eq, zt_pcd hw, e]
  constructor
  · intro h x hx
    have h1 := zc_out sk hc hw x t
    rw [h, zt_top ht] at h1
    exact ⟨fun q => (h1.mpr ⟨hx, q⟩).1, fun q => (h1.mp ⟨q, hx⟩).2⟩
  · intro h
    apply Nat.eq_of_testBit_eq
    intro x
    rw [Bool.eq_iff_iff, zc_out sk hc hw, zt_top ht]
    exact ⟨fun q => ⟨(h x q.1).mp q.2, q.1⟩, fun q => ⟨q.2, (h x q.2).mpr q.1⟩⟩
theorem zc_srt (hc : zc_hc n c lo hi) {w : List Nat} (hw : w ∈ zw_W n n) : zw_ok (zc_good n c lo hi sk) w = true ↔ zc_so n (zt_ps lo hi sk c (zt_P w)) = true := by
  unfold zc_so
  rw [zc_okd, (zw_mem hw).1, decide_eq_true_eq]
  constructor
  · intro h x hx
    have a := ((zc_key sk hc hw (Nat.le_of_lt hx)).mp (h x hx) x hx).mpr (Nat.le_refl x)
    have r := zc_rng sk hc hw hx
    by_cases h1 : x + 1 < n
    · have b := (zc_key sk hc hw (Nat.le_of_lt h1)).mp (h (x + 1) h1) x hx
      omega
    · omega
  · intro h t ht
    rw [zc_key sk hc hw (Nat.le_of_lt ht)]
    intro x hx
    rw [h x hx]
    omega
theorem zc_pcf (n : Nat) : zw_pc n (2 ^ n - 1) = n := by
  have e : ∀ x, x < n → ((2 ^ n - 1).testBit x).toNat = 1 := by
    intro x hx
    rw [Nat.testBit_two_pow_sub_one, decide_eq_true hx]
    rfl
  unfold zw_pc
  rw [zs_congr e, zs_const, Nat.mul_one]
theorem zc_pcn {n s : Nat} (hs : s < 2 ^ n) (h : zw_pc n s = n) : s = 2 ^ n - 1 := by
  apply Nat.eq_of_testBit_eq
  intro x
  rw [Nat.testBit_two_pow_sub_one]
  by_cases hx : x < n
  · rw [decide_eq_true hx]
    refine Classical.byContradiction fun hb => ?_
    have := zw_pc_lt hx (Bool.eq_false_iff.mpr hb)
    omega
  · rw [decide_eq_false hx]
    exact zw_hi hs (by omega)
theorem zc_sorted (hc : zc_hc n c lo hi) : zl_s (fun w => if zc_so n (zt_ps lo hi sk c (zt_P w)) then 1 else 0) (zw_W n n) = zw_C n (zc_good n c lo hi sk) n (2 ^ n - 1) := by
  have h := zw_K n (zc_good n c lo hi sk) n (fun _ => 1)
  have h2 := Nat.two_pow_pos n
  rw [zs_one (a := 2 ^ n - 1) (by omega) (fun s hs hne => if_neg (fun q => hne (zc_pcn hs q))), if_pos (zc_pcf n), Nat.mul_one] at h
  rw [← h]
  apply zl_congr
  intro w hw
  have hk := zc_srt sk hc hw
  generalize zw_ok (zc_good n c lo hi sk) w = b1 at hk ⊢
  generalize zc_so n (zt_ps lo hi sk c (zt_P w)) = b2 at hk ⊢
  rw [Bool.eq_iff_iff.mpr hk]
theorem zc_ex {n s : Nat} (hs : s < 2 ^ n) : ∃ w t, w ∈ zw_W n n ∧ t ≤ n ∧ zw_set (w.drop t) = s := by
  have hp := List.filter_append_perm (fun x => !s.testBit x) (List.range n)
  have hl := hp.length_eq
  rw [List.length_range] at hl
  refine ⟨_, ((List.range n).filter (fun x => !s.testBit x)).length, zw_in hl (hp.symm.nodup List.nodup_range) (fun x hx => List.mem_range.mp (hp.mem_iff.mp hx)), ?_, ?_⟩
  · rw [List.length_append] at hl
    omega
  · rw [List.drop_left]
    apply Nat.eq_of_testBit_eq
    intro x
    rw [Bool.eq_iff_iff, zw_bit_mem, List.mem_filter, List.mem_range, Bool.not_not]
    constructor
    · exact fun h => h.2
    · intro h
      refine ⟨Classical.byContradiction fun hx => ?_, h⟩
      rw [zw_hi hs (by omega)] at h
      exact absurd h (by decide)
theorem zc_sorts (hc : zc_hc n c lo hi) : zl_s (fun w => if zc_so n (zt_ps lo hi sk c (zt_P w)) then 1 else 0) (zw_W n n) = zw_f n ↔ ∀ s, s < 2 ^ n → zc_good n c lo hi sk s = true := by
  rw [← zw_len n, zl_all (fun w => zc_so n (zt_ps lo hi sk c (zt_P w)))]
  constructor
  · intro h s hs
    obtain ⟨w, t, hw, ht, e⟩ := zc_ex hs
    have h1 := h w hw
    unfold zc_so at h1
    rw [decide_eq_true_eq] at h1
    rw [← e, zc_key sk hc hw ht]
    intro x hx
    rw [h1 x hx]
    omega
  · intro h w hw
    rw [← zc_srt sk hc hw, zc_okd]
    intro t ht
    refine h _ (zw_lt (fun x hx => (zw_mem hw).2.2 x (List.mem_of_mem_drop hx)))
theorem zc_idle (hc : zc_hc n c lo hi) (sk' : Nat → Bool) : (∀ w, w ∈ zw_W n n → ∀ x, x < n → zt_ps lo hi sk c (zt_P w) x = zt_ps lo hi sk' c (zt_P w) x) ↔ ∀ s, s < 2 ^ n → zt_run lo hi sk c s = zt_run lo hi sk' c s := by
  constructor
  · intro h s hs
    obtain ⟨w, t, hw, ht, e⟩ := zc_ex hs
    rw [← e, ← zt_thw hw, ← zt_runth sk _ t hc, ← zt_runth sk' _ t hc]
    exact zt_thc (h w hw)
  · intro h w hw
    apply zt_same
    intro t
    rw [zt_runth sk _ t hc, zt_runth sk' _ t hc, zt_thw hw]
    exact h _ (zw_lt (fun x hx => (zw_mem hw).2.2 x (List.mem_of_mem_drop hx)))
end
end
section
/-! the next order, by index as in the reference; a kernel run over all orders -/
def zn_at (p : List Nat) : Nat → Nat
  | 0 => 0
  | a + 1 => bif Nat.ble (p.getD a 0) (p.getD (a + 1) 0) then a + 1 else zn_at p a
def zn_to (p : List Nat) (v : Nat) : Nat → Nat
  | 0 => 0
  | t + 1 => bif Nat.ble v (p.getD (t + 1) 0) then t + 1 else zn_to p v t
def zn_sw (p : List Nat) (i j : Nat) : List Nat := (p.set i (p.getD j 0)).set j (p.getD i 0)
def zn_rv (n a : Nat) : Nat → Nat → List Nat → List Nat
  | 0, _, p => p
  | f + 1, x, p => bif Nat.ble (n - x) (a + x) then p else zn_rv n a f (x + 1) (zn_sw p (a + x) (n - x))
def zn_P (n : Nat) (p : List Nat) : Option (List Nat) := match zn_at p (n - 1) with
  | 0 => none
  | a + 1 => some (zn_rv n a n 1 (zn_sw p a (zn_to p (p.getD a 0) (n - 1))))
def zn_fn (s : Nat) (k : Nat → Bool) : Bool := match s with
  | 0 => k 0
  | m + 1 => k (m + 1)
def zn_fl : List Nat → (List Nat → Bool) → Bool
  | [], k => k []
  | a :: l, k => zn_fn a (fun a' => zn_fl l (fun l' => k (a' :: l')))
theorem zn_fn_eq : ∀ (s : Nat) (k : Nat → Bool), zn_fn s k = k s
  | 0, _ => rfl
  | _ + 1, _ => rfl
theorem zn_fl_eq : ∀ (l : List Nat) (k : List Nat → Bool), zn_fl l k = k l
  | [], _ => rfl
  | a :: l, k => by rw [zn_fl, zn_fn_eq, zn_fl_eq l]
def zn_ok (n : Nat) (p : List Nat) : Bool := Nat.beq p.length n && Nat.beq (zw_set p) (2 ^ (n + 1) - 2)
def zn_cd : List Nat → Nat → Nat
  | [], a => a
  | d :: l, a => zn_cd l (a * 8 + d)
def zn_run (n : Nat) : Nat → List Nat → Bool
  | 0, _ => false
  | f + 1, p => zn_ok n p && (match zn_P n p with
    | none => Nat.beq f 0
    | some q => zn_fl q (fun q => Nat.ble (zn_cd p 0 + 1) (zn_cd q 0) && zn_run n f q))
def zn_id (n : Nat) : List Nat := (List.range n).map (fun x => x + 1)
theorem zn_k2 : zn_run 2 (zw_f 2) (zn_id 2) = true := by decide +kernel
theorem zn_k3 : zn_run 3 (zw_f 3) (zn_id 3) = true := by decide +kernel
theorem zn_k4 : zn_run 4 (zw_f 4) (zn_id 4) = true := by decide +kernel
theorem zn_k5 : zn_run 5 (zw_f 5) (zn_id 5) = true := by decide +kernel
theorem zn_k6 : zn_run 6 (zw_f 6) (zn_id 6) = true := by decide +kernel
theorem zn_k7 : zn_run 7 (zw_f 7) (zn_id 7) = true := by decide +kernel
theorem zn_k {n : Nat} (h2 : 2 ≤ n) (h7 : n ≤ 7) : zn_run n (zw_f n) (zn_id n) = true := by
  have h : n = 2 ∨ n = 3 ∨ n = 4 ∨ n = 5 ∨ n = 6 ∨ n = 7 := by omega
  rcases h with e | e | e | e | e | e
  · rw [e]; exact zn_k2
  · rw [e]; exact zn_k3
  · rw [e]; exact zn_k4
  · rw [e]; exact zn_k5
  · rw [e]; exact zn_k6
  · rw [e]; exact zn_k7
end
section
/-! the orders visited are all orders, once each -/
def zn_ch (n : Nat) : List (List Nat) → Prop
  | [] => False
  | [p] => zn_P n p = none
  | p :: q :: r => zn_P n p = some q ∧ zn_ch n (q :: r)
theorem zn_runs (n : Nat) : ∀ (f : Nat) (p : List Nat), zn_run n f p = true → ∃ l, zn_ch n (p :: l) ∧ (p :: l).length = f ∧ (∀ q, q ∈ p :: l → zn_ok n q = true) ∧ (∀ q, q ∈ l → zn_cd p 0 < zn_cd q 0) ∧ (p :: l).Nodup
  | 0, p, h => absurd h (by rw [zn_run]; decide)
  | f + 1, p, h => by
    rw [zn_run, Bool.and_eq_true] at h
    obtain ⟨ho, h⟩ := h
    cases hP : zn_P n p with
    | none =>
      simp only [hP] at h
      have hf := Nat.eq_of_beq_eq_true h
      refine ⟨[], hP, by rw [hf]; rfl, ?_, fun q hq => (List.not_mem_nil hq).elim, List.nodup_cons.mpr ⟨List.not_mem_nil, List.nodup_nil⟩⟩
      intro q hq
      rw [List.mem_singleton.mp hq]
      exact ho
    | some q =>
      simp only [hP, zn_fl_eq, Bool.and_eq_true] at h
      obtain ⟨hlt, hr⟩ := h
      have hlt2 : zn_cd p 0 < zn_cd q 0 := Nat.le_of_ble_eq_true hlt
      obtain ⟨l, h1, h2, h3, h4, h5⟩ := zn_runs n f q hr
      have hall : ∀ r, r ∈ q :: l → zn_cd p 0 < zn_cd r 0 := by
        intro r hm
        rcases List.mem_cons.mp hm with e | e
        · rw [e]; exact hlt2
        · exact Nat.lt_trans hlt2 (h4 r e)
      refine ⟨q :: l, ⟨hP, h1⟩, by rw [List.length_cons, h2], ?_, hall, List.nodup_cons.mpr ⟨fun hm => Nat.lt_irrefl _ (hall p hm), h5⟩⟩
      intro r hm
      rcases List.mem_cons.mp hm with e | e
      · rw [e]; exact ho
      · exact h3 r e
def zn_F (p : List Nat) : Nat → Nat := fun x => p.getD x 0
theorem zn_okl {n : Nat} {p : List Nat} (h : zn_ok n p = true) : p.length = n := by
  rw [zn_ok, Bool.and_eq_true] at h
  exact Nat.eq_of_beq_eq_true h.1
theorem zn_okm {n : Nat} {p : List Nat} (h : zn_ok n p = true) (v : Nat) : v ∈ p ↔ 1 ≤ v ∧ v ≤ n := by
  rw [zn_ok, Bool.and_eq_true] at h
  have e := Nat.eq_of_beq_eq_true h.2
  have e2 := zt_top (n := n + 1) (t := 1) (by omega) v
  rw [← zw_bit_mem, e]
  rw [Nat.pow_one] at e2
  rw [e2]
  omega
theorem zn_okn {n : Nat} {p : List Nat} (h : zn_ok n p = true) : p.Nodup := by
  have hp : (zn_id n).Perm p := by
    refine zl_cover _ (zl_nodup List.nodup_range (fun a _ b _ e => by omega)) ?_ ?_
    · intro a ha
      rw [zn_id, List.mem_map] at ha
      obtain ⟨i, hi, rfl⟩ := ha
      have := List.mem_range.mp hi
      rw [zn_okm h]
      omega
    · rw [zn_okl h, zn_id, List.length_map, List.length_range]
      exact Nat.le_refl n
  exact hp.nodup (zl_nodup List.nodup_range (fun a _ b _ e => by omega))
theorem zn_get {p : List Nat} {x : Nat} (h : x < p.length) : p.getD x 0 = p[x] := by
  rw [List.getD_eq_getElem?_getD, List.getElem?_eq_getElem h]
  rfl
theorem zn_okb {n : Nat} {p : List Nat} (h : zn_ok n p = true) {x : Nat} (hx : x < n) : 1 ≤ zn_F p x ∧ zn_F p x ≤ n := by
  have hl : x < p.length := by rw [zn_okl h]; exact hx
  have hm := List.getElem_mem hl
  unfold zn_F
  rw [zn_get hl]
  exact (zn_okm h _).mp hm
def zn_w (n : Nat) (p : List Nat) : List Nat := (List.range n).map (fun i => p.idxOf (i + 1))
theorem zn_wg {n : Nat} {p : List Nat} {i : Nat} (h : i < (zn_w n p).length) : (zn_w n p)[i] = p.idxOf (i + 1) := by
  simp [zn_w]
theorem zn_wi {n : Nat} {p : List Nat} (h : zn_ok n p = true) : zn_w n p ∈ zw_W n n := by
  have hm : ∀ i, i < n → p.idxOf (i + 1) < p.length := fun i hi => List.idxOf_lt_length_of_mem ((zn_okm h _).mpr ⟨by omega, by omega⟩)
  refine zw_in ?_ ?_ ?_
  · rw [zn_w, List.length_map, List.length_range]
  · refine zl_nodup List.nodup_range ?_
    intro a ha b hb e
    have ha' := hm a (List.mem_range.mp ha)
    have hb' := hm b (List.mem_range.mp hb)
    have e1 := List.getElem_idxOf ha'
    have e2 := List.getElem_idxOf hb'
    simp only [e] at e1
    rw [e2] at e1
    omega
  · intro x hx
    rw [zn_w, List.mem_map] at hx
    obtain ⟨i, hi, rfl⟩ := hx
    have h3 := hm i (List.mem_range.mp hi)
    rw [zn_okl h] at h3
    exact h3
theorem zn_wP {n : Nat} {p : List Nat} (h : zn_ok n p = true) {x : Nat} (hx : x < n) : zt_P (zn_w n p) x = zn_F p x := by
  have hl : x < p.length := by rw [zn_okl h]; exact hx
  have hb := zn_okb h hx
  have hw := zw_mem (zn_wi h)
  unfold zn_F at hb ⊢
  rw [zn_get hl] at hb ⊢
  have hv : p[x] - 1 < (zn_w n p).length := by rw [hw.1]; omega
  have e : (zn_w n p)[p[x] - 1] = x := by
    rw [zn_wg]
    have e2 : p[x] - 1 + 1 = p[x] := by omega
    rw [e2]
    exact List.Nodup.idxOf_getElem (zn_okn h) x hl
  have e3 := List.Nodup.idxOf_getElem hw.2.1 (p[x] - 1) hv
  rw [e] at e3
  unfold zt_P
  rw [e3]
  omega
theorem zn_inj {n : Nat} {p q : List Nat} (hp : zn_ok n p = true) (hq : zn_ok n q = true) (e : zn_w n p = zn_w n q) : p = q := by
  apply List.ext_getElem
  · rw [zn_okl hp, zn_okl hq]
  · intro i h1 h2
    have hi : i < n := by rw [← zn_okl hp]; exact h1
    have e1 := zn_wP hp hi
    rw [e, zn_wP hq hi] at e1
    unfold zn_F at e1
    rw [zn_get h1, zn_get h2] at e1
    exact e1.symm
theorem zn_sum {n : Nat} (h2 : 2 ≤ n) (h7 : n ≤ 7) : ∃ l, zn_ch n (zn_id n :: l) ∧ (∀ q, q ∈ zn_id n :: l → zn_ok n q = true) ∧ ((zn_id n :: l).map (zn_w n)).Perm (zw_W n n) := by
  obtain ⟨l, a, b, c, _, d⟩ := zn_runs n _ _ (zn_k h2 h7)
  refine ⟨l, a, c, zl_cover _ (zl_nodup d (fun p hp q hq e => zn_inj (c p hp) (c q hq) e)) ?_ ?_⟩
  · intro w hw
    obtain ⟨p, hp, rfl⟩ := List.mem_map.mp hw
    exact zn_wi (c p hp)
  · rw [List.length_map, b, zw_len]
    exact Nat.le_refl _
theorem zn_tr {n : Nat} {L : List (List Nat)} (hok : ∀ q, q ∈ L → zn_ok n q = true) (hp : (L.map (zn_w n)).Perm (zw_W n n)) (g : (Nat → Nat) → Nat) (hg : ∀ f f' : Nat → Nat, (∀ x, x < n → f x = f' x) → g f = g f') : zl_s (fun p => g (zn_F p)) L = zl_s (fun w => g (zt_P w)) (zw_W n n) := by
  rw [← zl_perm _ hp, zl_map]
  apply zl_congr
  intro p hm
  exact hg _ _ (fun x hx => (zn_wP (hok p hm) hx).symm)
theorem zn_trA {n : Nat} {L : List (List Nat)} (hok : ∀ q, q ∈ L → zn_ok n q = true) (hp : (L.map (zn_w n)).Perm (zw_W n n)) (G : (Nat → Nat) → Prop) (hg : ∀ f f' : Nat → Nat, (∀ x, x < n → f x = f' x) → G f → G f') : (∀ p, p ∈ L → G (zn_F p)) ↔ ∀ w, w ∈ zw_W n n → G (zt_P w) := by
  constructor
  · intro h w hw
    obtain ⟨p, hm, rfl⟩ := List.mem_map.mp (hp.mem_iff.mpr hw)
    exact hg _ _ (fun x hx => (zn_wP (hok p hm) hx).symm) (h p hm)
  · intro h p hm
    exact hg _ _ (fun x hx => zn_wP (hok p hm) hx) (h _ (zn_wi (hok p hm)))
end
section
/-! pure pictures that both walks share -/
def zx_G (n : Nat) (a : Nat → Int32) : Prop := ∀ k, ∃ j, j < n ∧ a k = nI j
def zx_l (a : Nat → Int32) : Nat → Nat := fun k => (a k).toNatClampNeg
theorem zx_lG {n : Nat} {a : Nat → Int32} (h7 : n ≤ 7) (h : zx_G n a) (k : Nat) : a k = nI (zx_l a k) ∧ zx_l a k < n := by
  obtain ⟨j, hj, e⟩ := h k
  have e2 : zx_l a k = j := by
    show (a k).toNatClampNeg = j
    rw [e, nI_clamp (by omega)]
  rw [e2]
  exact ⟨e, hj⟩
theorem zx_nb {n : Nat} {a : Nat → Int32} (h7 : n ≤ 7) (h : zx_G n a) (k : Nat) : vp_nar .byte (a k) = a k := by
  obtain ⟨j, hj, e⟩ := h k
  rw [e, zb_b (by omega)]
theorem zx_Gu {n : Nat} {a : Nat → Int32} (h : zx_G n a) (i : Nat) {v : Int32} (hv : ∃ j, j < n ∧ v = nI j) : zx_G n (upd a i v) := by
  intro k
  by_cases e : k = i
  · rw [e, pk_us]; exact hv
  · rw [pk_un e]; exact h k
def zx_I (n c : Nat) (lo hi : Nat → Nat) (al ah : Nat → Int32) : Prop := (2 ≤ n ∧ n ≤ 7 ∧ c ≤ 24) ∧ (∀ k, al k = nI (lo k)) ∧ (∀ k, ah k = nI (hi k)) ∧ (∀ k, lo k < n) ∧ (∀ k, hi k < n)
def zx_cp (i : Nat) (a b : Nat → Int32) : Nat → Int32 := fun x => if x < i then a x else b x
theorem zx_cp0 (a b : Nat → Int32) : zx_cp 0 a b = b := funext fun x => if_neg (Nat.not_lt_zero x)
theorem zx_cpl {i : Nat} {a b : Nat → Int32} {x : Nat} (h : x < i) : zx_cp i a b x = a x := if_pos h
theorem zx_cpg {i : Nat} {a b : Nat → Int32} {x : Nat} (h : i ≤ x) : zx_cp i a b x = b x := if_neg (by omega)
theorem zx_cps (i : Nat) (a b : Nat → Int32) : upd (zx_cp i a b) i (a i) = zx_cp (i + 1) a b := by
  funext x
  by_cases h : x = i
  · rw [h, pk_us, zx_cpl (by omega)]
  · rw [pk_un h]
    by_cases h2 : x < i
    · rw [zx_cpl h2, zx_cpl (by omega)]
    · rw [zx_cpg (by omega), zx_cpg (by omega)]
def zx_dr : Nat → Nat → (Nat → Int32) → Nat → Int32
  | 0, _, a => a
  | d + 1, i, a => zx_dr d (i + 1) (upd a i (a (i + 1)))
theorem zx_drG {n : Nat} : ∀ (d i : Nat) {a : Nat → Int32}, zx_G n a → zx_G n (zx_dr d i a)
  | 0, _, _, h => h
  | d + 1, i, a, h => zx_drG d (i + 1) (zx_Gu h i (h (i + 1)))
theorem zx_drv : ∀ (d i : Nat) (a : Nat → Int32) (j : Nat), zx_dr d i a j = if i ≤ j ∧ j < i + d then a (j + 1) else a j
  | 0, i, a, j => by
    rw [zx_dr, if_neg (by omega)]
  | d + 1, i, a, j => by
    rw [zx_dr, zx_drv d (i + 1)]
    by_cases h1 : i + 1 ≤ j ∧ j < i + 1 + d
    · rw [if_pos h1, if_pos (by omega), pk_un (by omega)]
    · rw [if_neg h1]
      by_cases h2 : j = i
      · rw [h2, pk_us, if_pos (by omega)]
      · rw [pk_un h2, if_neg (by omega)]
def zp_cp (f : Nat → Int32) (i j : Nat) : Nat → Int32 := if f j < f i then upd (upd f i (f j)) j (f i) else f
def zp_ps (lo hi : Nat → Nat) (sk : Nat → Bool) : Nat → (Nat → Int32) → Nat → Int32
  | 0, f => f
  | m + 1, f => if sk m then zp_ps lo hi sk m f else zp_cp (zp_ps lo hi sk m f) (lo m) (hi m)
def zp_no : Nat → Bool := fun _ => false
def zp_mv (lo hi : Nat → Nat) : Nat → (Nat → Int32) → Nat
  | 0, _ => 0
  | m + 1, f => zp_mv lo hi m f + (if zp_ps lo hi zp_no m f (hi m) < zp_ps lo hi zp_no m f (lo m) then 1 else 0)
theorem zp_psn (lo hi : Nat → Nat) (m : Nat) (f : Nat → Int32) : zp_ps lo hi zp_no (m + 1) f = zp_cp (zp_ps lo hi zp_no m f) (lo m) (hi m) := by
  rw [zp_ps]
  exact if_neg (fun (q : false = true) => absurd q (by decide))
theorem zp_cpn {n : Nat} {f : Nat → Int32} {p : Nat → Nat} (h : ∀ x, x < n → f x = nI (p x)) (hb : ∀ x, x < n → p x < 2 ^ 31) {i j : Nat} (hi : i < n) (hj : j < n) : ∀ x, x < n → zp_cp f i j x = nI (zt_cp p i j x) := by
  intro x hx
  have e : f j < f i ↔ p j < p i := by rw [h i hi, h j hj, nI_ltI (hb j hj) (hb i hi)]
  unfold zp_cp zt_cp
  by_cases h1 : p j < p i
  · rw [if_pos (e.mpr h1), if_pos h1]
    by_cases h2 : x = j
    · rw [h2, pk_us, if_pos rfl, h i hi]
    · rw [pk_un h2, if_neg h2]
      by_cases h3 : x = i
      · rw [h3, pk_us, if_pos rfl, h j hj]
      · rw [pk_un h3, if_neg h3, h x hx]
  · rw [if_neg (fun q => h1 (e.mp q)), if_neg h1, h x hx]
theorem zp_nat {n : Nat} {lo hi : Nat → Nat} (sk : Nat → Bool) {f : Nat → Int32} {p : Nat → Nat} (h : ∀ x, x < n → f x = nI (p x)) (hb : ∀ x, x < n → p x < 2 ^ 31) : ∀ {m : Nat}, (∀ k, k < m → lo k < n ∧ hi k < n) → ∀ x, x < n → zp_ps lo hi sk m f x = nI (zt_ps lo hi sk m p x)
  | 0, _, x, hx => h x hx
  | m + 1, hk, x, hx => by
    have hk2 : ∀ k, k < m → lo k < n ∧ hi k < n := fun k (hm : k < m) => hk k (by omega)
    have ih := zp_nat sk h hb hk2
    have hb2 := zt_all sk (P := fun y => y < 2 ^ 31) hb hk2
    obtain ⟨h1, h2⟩ := hk m (by omega)
    rw [zp_ps, zt_ps]
    by_cases hs : sk m = true
    · rw [if_pos hs, if_pos hs]; exact ih x hx
    · rw [if_neg hs, if_neg hs]; exact zp_cpn ih hb2 h1 h2 x hx
theorem zt_st_lt {n s i j : Nat} (hs : s < 2 ^ n) (hi : i < n) (hj : j < n) : zt_st s i j < 2 ^ n := by
  unfold zt_st
  split
  · exact hs
  · exact Nat.xor_lt_two_pow hs (Nat.or_lt_two_pow (zw_pw hi) (zw_pw hj))
theorem zt_run_lt {n s : Nat} {lo hi : Nat → Nat} (sk : Nat → Bool) (hs : s < 2 ^ n) (bl : ∀ k, lo k < n) (bh : ∀ k, hi k < n) : ∀ m, zt_run lo hi sk m s < 2 ^ n
  | 0 => hs
  | m + 1 => by
    have ih := zt_run_lt sk hs bl bh m
    rw [zt_run]
    split
    · exact ih
    · exact zt_st_lt ih (bl m) (bh m)
theorem zb_pw {n : Nat} (h : n ≤ 7) : 2 ^ n ≤ 128 := Nat.pow_le_pow_right (by omega) h
end
section
/-! the component's small methods -/
section
variable {n c : Nat} {lo hi : Nat → Nat} {al ah gi wi be wh ch ro pr : Nat → Int32}
theorem zx_bad1 {post : Int32 → Prop} {v : Int32} (h : v < 0 ∨ nI n ≤ v) (H : post 1) : wpX_badWire post (nI n, nI c, al, ah, gi, wi, be, wh, ch, ro, pr) v := by
  by_cases h0 : v < 0
  · exact br_t h0 H
  · exact br_f h0 (br_f (Int32.not_lt.mpr (h.resolve_left h0)) H)
theorem zx_bad0 {post : Int32 → Prop} (h7 : n ≤ 7) {j : Nat} (hj : j < n) (H : post 0) : wpX_badWire post (nI n, nI c, al, ah, gi, wi, be, wh, ch, ro, pr) (nI j) := br_f (nI_pos (by omega)) (br_t (nI_lt hj (by omega)) H)
theorem zx_add1 {post : Int32 → SX → Prop} {v w : Int32} (h : v < 0 ∨ nI n ≤ v) (H : post (-1) (nI n, nI c, al, ah, gi, wi, be, wh, ch, ro, pr)) : wpX_add post (nI n, nI c, al, ah, gi, wi, be, wh, ch, ro, pr) v w := by
  unfold wpX_add
  dsimp only
  exact zx_bad1 h (br_f (by decide) H)
theorem zx_add2 {post : Int32 → SX → Prop} (h7 : n ≤ 7) {i : Nat} {w : Int32} (hi' : i < n) (h : w < 0 ∨ nI n ≤ w) (H : post (-1) (nI n, nI c, al, ah, gi, wi, be, wh, ch, ro, pr)) : wpX_add post (nI n, nI c, al, ah, gi, wi, be, wh, ch, ro, pr) (nI i) w := by
  unfold wpX_add
  dsimp only
  exact zx_bad0 h7 hi' (br_t rfl (zx_bad1 h (br_f (by decide) H)))
theorem zx_add3 {post : Int32 → SX → Prop} (h7 : n ≤ 7) {i : Nat} (hi' : i < n) (H : post (-1) (nI n, nI c, al, ah, gi, wi, be, wh, ch, ro, pr)) : wpX_add post (nI n, nI c, al, ah, gi, wi, be, wh, ch, ro, pr) (nI i) (nI i) := by
  unfold wpX_add
  dsimp only
  exact zx_bad0 h7 hi' (br_t rfl (zx_bad0 h7 hi' (br_t rfl (br_t rfl H))))
theorem zx_add4 {post : Int32 → SX → Prop} (h7 : n ≤ 7) {i j : Nat} (hi' : i < n) (hj' : j < n) (hne : i ≠ j) (H : post (-2) (nI n, nI 24, al, ah, gi, wi, be, wh, ch, ro, pr)) : wpX_add post (nI n, nI 24, al, ah, gi, wi, be, wh, ch, ro, pr) (nI i) (nI j) := by
  have h1 : ¬ nI i = nI j := fun q => hne ((nI_eq (by omega) (by omega)).mp q)
  unfold wpX_add
  dsimp only
  exact zx_bad0 h7 hi' (br_t rfl (zx_bad0 h7 hj' (br_t rfl (br_f h1 (br_t rfl H)))))
theorem zx_add5 {post : Int32 → SX → Prop} (h7 : n ≤ 7) {i j : Nat} (hi' : i < n) (hj' : j < n) (hne : i ≠ j) (hc : c < 24) (H : post (nI (c + 1)) (nI n, nI (c + 1), upd al c (nI i), upd ah c (nI j), gi, wi, be, wh, ch, ro, pr)) : wpX_add post (nI n, nI c, al, ah, gi, wi, be, wh, ch, ro, pr) (nI i) (nI j) := by
  have h1 : ¬ nI i = nI j := fun q => hne ((nI_eq (by omega) (by omega)).mp q)
  have h2 : ¬ nI c = 24 := fun q => by
    have := (nI_eq (a := c) (b := 24) (by omega) (by omega)).mp q
    omega
  have e1 : upd al (nI c).toNatClampNeg (vp_nar .byte (nI i).toInt8.toInt32) = upd al c (nI i) := by rw [nI_clamp (by omega), zb_bb (by omega)]
  have e2 : upd ah (nI c).toNatClampNeg (vp_nar .byte (nI j).toInt8.toInt32) = upd ah c (nI j) := by rw [nI_clamp (by omega), zb_bb (by omega)]
  have hv : vp_in (nI c) 24 := vp_in_nI hc (by omega)
  unfold wpX_add
  dsimp only
  exact zx_bad0 h7 hi' (br_t rfl (zx_bad0 h7 hj' (br_t rfl (br_f h1 (br_f h2 ⟨hv, nm_r e1 ⟨hv, nm_r e2 (nm_r (nI_1 c) H)⟩⟩)))))
theorem zx_drop27 {post : Int32 → SX → Prop} (h7 : n ≤ 7) (hc : c ≤ 23) : ∀ (d i : Nat) (al ah : Nat → Int32), zx_G n al → zx_G n ah → i + d = c → post (nI c) (nI n, nI c, zx_dr d i al, zx_dr d i ah, gi, wi, be, wh, ch, ro, pr) → wX_drop_27 post (nI n) (nI c) (d + 1) (nI i) al ah gi wi be wh ch ro pr := by
  intro d
  induction d with
  | zero =>
    intro i al ah _ _ hi' H
    exact br_t (nI_le (by omega) (by omega)) H
  | succ d ih =>
    intro i al ah ga gh hi' H
    have hv : vp_in (nI i) 24 := vp_in_nI (by omega) (by omega)
    have hv1 : vp_in (nI i + 1) 24 := pk_in (i + 1) 24 (by omega) (nI_1 i)
    have e1 : upd al (nI i).toNatClampNeg (vp_nar .byte (al (nI i + 1).toNatClampNeg)) = upd al i (al (i + 1)) := by
      rw [nI_1, nI_clamp (by omega), nI_clamp (by omega), zx_nb h7 ga]
    have e2 : upd ah (nI i).toNatClampNeg (vp_nar .byte (ah (nI i + 1).toNatClampNeg)) = upd ah i (ah (i + 1)) := by
      rw [nI_1, nI_clamp (by omega), nI_clamp (by omega), zx_nb h7 gh]
    exact br_f (nI_ge (by omega) (by omega)) ⟨hv1, hv, nm_r e1 ⟨hv1, hv, nm_r e2 (nm_r (nI_1 i) (ih (i + 1) _ _ (zx_Gu ga i (ga (i + 1))) (zx_Gu gh i (gh (i + 1))) (by omega) H))⟩⟩
theorem zx_drop1 {post : Int32 → SX → Prop} (h7 : n ≤ 7) (hc : c ≤ 24) (ga : zx_G n al) (gh : zx_G n ah) {k : Nat} (hk : k < c) (H : post (nI (c - 1)) (nI n, nI (c - 1), zx_dr (c - 1 - k) k al, zx_dr (c - 1 - k) k ah, gi, wi, be, wh, ch, ro, pr)) : wpX_drop post (nI n, nI c, al, ah, gi, wi, be, wh, ch, ro, pr) (nI k) := by
  have e : nI c - 1 = nI (c - 1) := by
    obtain ⟨m, rfl⟩ : ∃ m, c = m + 1 := ⟨c - 1, by omega⟩
    rw [nI_pred]
    rfl
  exact br_f (nI_pos (by omega)) (br_t (nI_lt hk (by omega)) (nm_r e ⟨_, zx_drop27 h7 (by omega) (c - 1 - k) k al ah ga gh (by omega) H⟩))
theorem zx_drop0 {post : Int32 → SX → Prop} {v : Int32} (h : v < 0 ∨ nI c ≤ v) (H : post (-4) (nI n, nI c, al, ah, gi, wi, be, wh, ch, ro, pr)) : wpX_drop post (nI n, nI c, al, ah, gi, wi, be, wh, ch, ro, pr) v := by
  by_cases h0 : v < 0
  · exact br_t h0 H
  · exact br_f h0 (br_f (Int32.not_lt.mpr (h.resolve_left h0)) H)
theorem zx_swap0 {post : Int32 → SX → Prop} {v : Int32} (h : v < 0 ∨ ¬ v < nI c - 1) (H : post (-4) (nI n, nI c, al, ah, gi, wi, be, wh, ch, ro, pr)) : wpX_swap post (nI n, nI c, al, ah, gi, wi, be, wh, ch, ro, pr) v := by
  by_cases h0 : v < 0
  · exact br_t h0 H
  · exact br_f h0 (br_f (h.resolve_left h0) H)
theorem zx_swap1 {post : Int32 → SX → Prop} (h7 : n ≤ 7) (hc : c ≤ 24) (ga : zx_G n al) (gh : zx_G n ah) {k : Nat} (hk : k + 1 < c) (hlt : nI k < nI c - 1) (H : post 0 (nI n, nI c, upd (upd al k (al (k + 1))) (k + 1) (al k), upd (upd ah k (ah (k + 1))) (k + 1) (ah k), gi, wi, be, wh, ch, ro, pr)) : wpX_swap post (nI n, nI c, al, ah, gi, wi, be, wh, ch, ro, pr) (nI k) := by
  have hv : vp_in (nI k) 24 := vp_in_nI (by omega) (by omega)
  have hv1 : vp_in (nI k + 1) 24 := pk_in (k + 1) 24 (by omega) (nI_1 k)
  have c0 : (nI k).toNatClampNeg = k := nI_clamp (by omega)
  have c1 : (nI k + 1).toNatClampNeg = k + 1 := by rw [nI_1, nI_clamp (by omega)]
  have e1 : upd al (nI k).toNatClampNeg (vp_nar .byte (al (nI k + 1).toNatClampNeg)) = upd al k (al (k + 1)) := by rw [c0, c1, zx_nb h7 ga]
  have e2 : upd ah (nI k).toNatClampNeg (vp_nar .byte (ah (nI k + 1).toNatClampNeg)) = upd ah k (ah (k + 1)) := by rw [c0, c1, zx_nb h7 gh]
  have e3 : upd (upd al k (al (k + 1))) (nI k + 1).toNatClampNeg (vp_nar .byte (al k)) = upd (upd al k (al (k + 1))) (k + 1) (al k) := by rw [c1, zx_nb h7 ga]
  have e4 : upd (upd ah k (ah (k + 1))) (nI k + 1).toNatClampNeg (vp_nar .byte (ah k)) = upd (upd ah k (ah (k + 1))) (k + 1) (ah k) := by rw [c1, zx_nb h7 gh]
  exact br_f (nI_pos (by omega)) (br_t hlt ⟨hv, nm_r (congrArg al c0) ⟨hv, nm_r (congrArg ah c0) ⟨hv1, hv, nm_r e1 ⟨hv1, hv, nm_r e2 ⟨hv1, nm_r e3 ⟨hv1, nm_r e4 H⟩⟩⟩⟩⟩⟩)
theorem zx_tv {n : Nat} (h2 : 2 ≤ n) (h7 : n ≤ 7) {a : Nat → Int32} (ga : zx_G n a) (k : Nat) : ∃ j, j < n ∧ (nI n - 1) - a k = nI j := by
  obtain ⟨j, hj, e⟩ := ga k
  obtain ⟨m, rfl⟩ : ∃ m, n = m + 1 := ⟨n - 1, by omega⟩
  refine ⟨m - j, by omega, ?_⟩
  rw [e, nI_pred, pk_sub (by omega)]
theorem zx_turn2 {post : Int32 → SX → Prop} (h2 : 2 ≤ n) (h7 : n ≤ 7) (hc : c ≤ 24) (ga : zx_G n al) (gh : zx_G n ah) (H : post (nI c) (nI n, nI c, zx_cp c (fun k => (nI n - 1) - ah k) al, zx_cp c (fun k => (nI n - 1) - al k) ah, gi, wi, be, wh, ch, ro, pr)) : ∀ (d i : Nat), i + d = c → wX_turn_2 post (nI n) (nI c) (d + 1) (nI i) (zx_cp i (fun k => (nI n - 1) - ah k) al) (zx_cp i (fun k => (nI n - 1) - al k) ah) gi wi be wh ch ro pr := by
  intro d
  induction d with
  | zero =>
    intro i hi'
    have e : i = c := by omega
    subst e
    exact br_t (nI_le (by omega) (by omega)) H
  | succ d ih =>
    intro i hi'
    have hv : vp_in (nI i) 24 := vp_in_nI (by omega) (by omega)
    have c0 : (nI i).toNatClampNeg = i := nI_clamp (by omega)
    have f1 : (zx_cp i (fun k => (nI n - 1) - ah k) al) (nI i).toNatClampNeg = al i := by rw [c0, zx_cpg (by omega)]
    have e1 : upd (zx_cp i (fun k => (nI n - 1) - ah k) al) (nI i).toNatClampNeg (vp_nar .byte (((nI n - 1) - ((zx_cp i (fun k => (nI n - 1) - al k) ah) (nI i).toNatClampNeg)).toInt8.toInt32)) = zx_cp (i + 1) (fun k => (nI n - 1) - ah k) al := by
      obtain ⟨j, hj, e⟩ := zx_tv h2 h7 gh i
      rw [c0, zx_cpg (by omega), e, zb_bb (by omega), ← e]
      exact zx_cps i _ _
    have e2 : upd (zx_cp i (fun k => (nI n - 1) - al k) ah) (nI i).toNatClampNeg (vp_nar .byte (((nI n - 1) - al i).toInt8.toInt32)) = zx_cp (i + 1) (fun k => (nI n - 1) - al k) ah := by
      obtain ⟨j, hj, e⟩ := zx_tv h2 h7 ga i
      rw [c0, e, zb_bb (by omega), ← e]
      exact zx_cps i _ _
    exact br_f (nI_ge (by omega) (by omega)) ⟨hv, nm_r f1 ⟨hv, hv, nm_r e1 ⟨hv, nm_r e2 (nm_r (nI_1 i) (ih (i + 1) (by omega)))⟩⟩⟩
theorem zx_turn {post : Int32 → SX → Prop} (h2 : 2 ≤ n) (h7 : n ≤ 7) (hc : c ≤ 24) (ga : zx_G n al) (gh : zx_G n ah) (H : post (nI c) (nI n, nI c, zx_cp c (fun k => (nI n - 1) - ah k) al, zx_cp c (fun k => (nI n - 1) - al k) ah, gi, wi, be, wh, ch, ro, pr)) : wpX_turn post (nI n, nI c, al, ah, gi, wi, be, wh, ch, ro, pr) := by
  have h := zx_turn2 h2 h7 hc ga gh H c 0 (by omega)
  rw [zx_cp0, zx_cp0] at h
  exact ⟨_, h⟩
theorem zx_input1 {post : Int32 → SX → Prop} {v w : Int32} (h : v < 0 ∨ nI n ≤ v) (H : post (-1) (nI n, nI c, al, ah, gi, wi, be, wh, ch, ro, pr)) : wpX_input post (nI n, nI c, al, ah, gi, wi, be, wh, ch, ro, pr) v w := by
  unfold wpX_input
  dsimp only
  exact zx_bad1 h (br_f (by decide) H)
theorem zx_input0 {post : Int32 → SX → Prop} (h7 : n ≤ 7) {i : Nat} {w : Int32} (hi' : i < n) (H : post 0 (nI n, nI c, al, ah, upd gi i w, wi, be, wh, ch, ro, pr)) : wpX_input post (nI n, nI c, al, ah, gi, wi, be, wh, ch, ro, pr) (nI i) w := by
  have e : upd gi (nI i).toNatClampNeg w = upd gi i w := by rw [nI_clamp (by omega)]
  unfold wpX_input
  dsimp only
  exact zx_bad0 h7 hi' (br_t rfl ⟨vp_in_nI (by omega) (by omega), nm_r e H⟩)
theorem zx_pass32 {post : Int32 → SX → Prop} (I : zx_I n c lo hi al ah) (f : Nat → Int32) (H : post (nI (zp_mv lo hi c f)) (nI n, nI c, al, ah, gi, zp_ps lo hi zp_no c f, be, wh, ch, ro, pr)) : ∀ (d k : Nat), k + d = c → wX_pass_32 post (nI n) (nI c) (d + 1) (nI (zp_mv lo hi k f)) (nI k) al ah gi (zp_ps lo hi zp_no k f) be wh ch ro pr := by
  obtain ⟨⟨h2, h7, hc⟩, hl, hh, bl, bh⟩ := I
  intro d
  induction d with
  | zero =>
    intro k hk
    have e : k = c := by omega
    subst e
    exact br_t (nI_le (by omega) (by omega)) H
  | succ d ih =>
    intro k hk
    have b1 := bl k
    have b2 := bh k
    have hv : vp_in (nI k) 24 := vp_in_nI (by omega) (by omega)
    have l1 : al (nI k).toNatClampNeg = nI (lo k) := by rw [nI_clamp (by omega), hl]
    have l2 : ah (nI k).toNatClampNeg = nI (hi k) := by rw [nI_clamp (by omega), hh]
    have v1 : vp_in (al (nI k).toNatClampNeg) 7 := by rw [l1]; exact vp_in_nI (by omega) (by omega)
    have v2 : vp_in (ah (nI k).toNatClampNeg) 7 := by rw [l2]; exact vp_in_nI (by omega) (by omega)
    have c1 : (al (nI k).toNatClampNeg).toNatClampNeg = lo k := by rw [l1, nI_clamp (by omega)]
    have c2 : (ah (nI k).toNatClampNeg).toNatClampNeg = hi k := by rw [l2, nI_clamp (by omega)]
    refine br_f (nI_ge (by omega) (by omega)) ⟨hv, v1, nm_r (congrArg _ c1) ⟨hv, v2, nm_r (congrArg _ c2) ?_⟩⟩
    by_cases hlt : zp_ps lo hi zp_no k f (hi k) < zp_ps lo hi zp_no k f (lo k)
    · have hnl : ¬ zp_ps lo hi zp_no k f (lo k) ≤ zp_ps lo hi zp_no k f (hi k) := Int32.not_le.mpr hlt
      have e1 : upd (zp_ps lo hi zp_no k f) (al (nI k).toNatClampNeg).toNatClampNeg (zp_ps lo hi zp_no k f (hi k)) = upd (zp_ps lo hi zp_no k f) (lo k) (zp_ps lo hi zp_no k f (hi k)) := by rw [c1]
      have e2 : upd (upd (zp_ps lo hi zp_no k f) (lo k) (zp_ps lo hi zp_no k f (hi k))) (ah (nI k).toNatClampNeg).toNatClampNeg (zp_ps lo hi zp_no k f (lo k)) = zp_ps lo hi zp_no (k + 1) f := by
        rw [c2, zp_psn, zp_cp, if_pos hlt]
      have e3 : nI (zp_mv lo hi k f) + 1 = nI (zp_mv lo hi (k + 1) f) := by
        rw [nI_1, zp_mv, if_pos hlt]
      exact br_f hnl ⟨hv, v1, nm_r e1 ⟨hv, v2, nm_r e2 (nm_r e3 (nm_r (nI_1 k) (ih (k + 1) (by omega))))⟩⟩
    · have hle : zp_ps lo hi zp_no k f (lo k) ≤ zp_ps lo hi zp_no k f (hi k) := Int32.not_lt.mp hlt
      have h := ih (k + 1) (by omega)
      rw [zp_psn, zp_cp, if_neg hlt, zp_mv, if_neg hlt, Nat.add_zero] at h
      exact br_t hle (nm_r (nI_1 k) h)
theorem zx_pass4 {post : Int32 → SX → Prop} (I : zx_I n c lo hi al ah) (H : post (nI (zp_mv lo hi c (zx_cp n gi wi))) (nI n, nI c, al, ah, gi, zp_ps lo hi zp_no c (zx_cp n gi wi), be, wh, ch, ro, pr)) : ∀ (d i : Nat), i + d = n → wX_pass_4 post 0 (nI n) (nI c) (d + 1) (nI i) al ah gi (zx_cp i gi wi) be wh ch ro pr := by
  intro d
  induction d with
  | zero =>
    intro i hi'
    have h7 := I.1.2.1
    have e : i = n := by omega
    subst e
    exact br_t (nI_le (by omega) (by omega)) ⟨_, zx_pass32 I (zx_cp i gi wi) H c 0 (by omega)⟩
  | succ d ih =>
    intro i hi'
    have h7 := I.1.2.1
    have hv : vp_in (nI i) 7 := vp_in_nI (by omega) (by omega)
    have e : upd (zx_cp i gi wi) (nI i).toNatClampNeg (gi (nI i).toNatClampNeg) = zx_cp (i + 1) gi wi := by
      rw [nI_clamp (by omega), zx_cps]
    exact br_f (nI_ge (by omega) (by omega)) ⟨hv, hv, nm_r e (nm_r (nI_1 i) (ih (i + 1) (by omega)))⟩
theorem zx_pass {post : Int32 → SX → Prop} (I : zx_I n c lo hi al ah) (H : post (nI (zp_mv lo hi c (zx_cp n gi wi))) (nI n, nI c, al, ah, gi, zp_ps lo hi zp_no c (zx_cp n gi wi), be, wh, ch, ro, pr)) : wpX_pass post (nI n, nI c, al, ah, gi, wi, be, wh, ch, ro, pr) := by
  have h := zx_pass4 I H n 0 (by omega)
  rw [zx_cp0] at h
  exact ⟨_, h⟩
theorem zx_output1 {post : Int32 → SX → Prop} {v : Int32} (h : v < 0 ∨ nI n ≤ v) (H : post 0 (nI n, nI c, al, ah, gi, wi, be, wh, ch, ro, pr)) : wpX_output post (nI n, nI c, al, ah, gi, wi, be, wh, ch, ro, pr) v := by
  unfold wpX_output
  dsimp only
  exact zx_bad1 h (br_f (by decide) H)
theorem zx_output0 {post : Int32 → SX → Prop} (I : zx_I n c lo hi al ah) {i : Nat} (hi' : i < n) (H : post (zp_ps lo hi zp_no c (zx_cp n gi wi) i) (nI n, nI c, al, ah, gi, zp_ps lo hi zp_no c (zx_cp n gi wi), be, wh, ch, ro, pr)) : wpX_output post (nI n, nI c, al, ah, gi, wi, be, wh, ch, ro, pr) (nI i) := by
  have h7 := I.1.2.1
  have e : (nI i).toNatClampNeg = i := nI_clamp (by omega)
  unfold wpX_output
  dsimp only
  refine zx_bad0 h7 hi' (br_t rfl (zx_pass I ?_))
  dsimp only
  rw [e]
  exact ⟨vp_in_nI (by omega) (by omega), H⟩
theorem zx_exchanges {post : Int32 → SX → Prop} (I : zx_I n c lo hi al ah) (H : post (nI (zp_mv lo hi c (zx_cp n gi wi))) (nI n, nI c, al, ah, gi, zp_ps lo hi zp_no c (zx_cp n gi wi), be, wh, ch, ro, pr)) : wpX_exchanges post (nI n, nI c, al, ah, gi, wi, be, wh, ch, ro, pr) := by
  unfold wpX_exchanges
  dsimp only
  exact zx_pass I H
end
end
section
/-! the component: what sets become -/
def zx_b : Bool → Int32
  | true => 1
  | false => 0
def zx_all (g : Nat → Bool) : Nat → Bool
  | 0 => true
  | k + 1 => zx_all g k && g k
theorem zx_all_iff (g : Nat → Bool) : ∀ m, zx_all g m = true ↔ ∀ k, k < m → g k = true
  | 0 => ⟨fun _ k hk => absurd hk (Nat.not_lt_zero k), fun _ => rfl⟩
  | m + 1 => by
    rw [zx_all, Bool.and_eq_true, zx_all_iff g m]
    constructor
    · rintro ⟨a, b⟩ k hk
      by_cases e : k = m
      · rw [e]; exact b
      · exact a k (by omega)
    · intro h
      exact ⟨fun k hk => h k (by omega), h m (by omega)⟩
section
variable {n c : Nat} {lo hi : Nat → Nat} {al ah gi wi be wh ch ro pr : Nat → Int32}
theorem zx_behind {post : Int32 → Prop} (I : zx_I n c lo hi al ah) {s k : Nat} (hk : k < 24) (hs : s < 2 ^ 31) (H : post (nI (zt_st s (lo k) (hi k)))) : wpX_behind post (nI n, nI c, al, ah, gi, wi, be, wh, ch, ro, pr) (nI s) (nI k) := by
  obtain ⟨⟨h2, h7, hc⟩, hl, hh, bl, bh⟩ := I
  have b1 := bl k
  have b2 := bh k
  have hv : vp_in (nI k) 24 := vp_in_nI hk (by omega)
  have l1 : al (nI k).toNatClampNeg = nI (lo k) := by rw [nI_clamp (by omega), hl]
  have l2 : ah (nI k).toNatClampNeg = nI (hi k) := by rw [nI_clamp (by omega), hh]
  have e1 : (nI s >>> ((al (nI k).toNatClampNeg) &&& 31)) &&& 1 = nI (s / 2 ^ lo k % 2) := by rw [l1, zb_bit hs (by omega)]
  have e2 : (nI s >>> ((ah (nI k).toNatClampNeg) &&& 31)) &&& 1 = nI (s / 2 ^ hi k % 2) := by rw [l2, zb_bit hs (by omega)]
  have e3 : nI s ^^^ (((1 : Int32) <<< ((al (nI k).toNatClampNeg) &&& 31)) ||| ((1 : Int32) <<< ((ah (nI k).toNatClampNeg) &&& 31))) = nI (s ^^^ (2 ^ lo k ||| 2 ^ hi k)) := by
    rw [l1, l2, zb_one (by omega), zb_one (by omega), zb_or, nx_xor]
  have m1 := zb_m2 (s / 2 ^ lo k)
  have m2 := zb_m2 (s / 2 ^ hi k)
  unfold zt_st at H
  unfold wpX_behind
  dsimp only
  refine ⟨hv, nm_r e1 ⟨hv, nm_r e2 ?_⟩⟩
  generalize s / 2 ^ lo k % 2 = p at *
  generalize s / 2 ^ hi k % 2 = q at *
  by_cases hpq : p ≤ q
  · rw [if_pos hpq] at H
    exact br_t (nI_le hpq (by omega)) H
  · rw [if_neg hpq] at H
    refine br_f (nI_ge (by omega) (by omega)) ⟨hv, hv, ?_⟩
    rw [e3]
    exact H
theorem zx_fs18 {post : SX → Prop} {J : Int32 → (Nat → Int32) → (Nat → Int32) → (Nat → Int32) → (Nat → Int32) → (Nat → Int32) → (Nat → Int32) → (Nat → Int32) → (Nat → Int32) → (Nat → Int32) → Prop} (I : zx_I n c lo hi al ah) {m s : Nat} {x2 : Int32} {sk : Nat → Bool} (hm : m ≤ 24) (hs : s < 2 ^ n) (hsk : ∀ k, k < 24 → (nI k = x2 ↔ sk k = true)) (HJ : J (nI (s + 1)) al ah gi wi (upd be s (nI (zt_run lo hi sk m s))) wh ch ro pr) : ∀ (d k : Nat), k + d = m → wX_findSets_18 post J (nI m) x2 (nI s) (nI n) (nI c) al ah gi wi be wh ch ro pr (d + 1) (nI (zt_run lo hi sk k s)) (nI k) := by
  have h7 := I.1.2.1
  have hp := zb_pw h7
  have hr := fun k => zt_run_lt sk hs I.2.2.2.1 I.2.2.2.2 k
  intro d
  induction d with
  | zero =>
    intro k hk
    have e : k = m := by omega
    subst e
    have h1 := hr k
    have e1 : upd be (nI s).toNatClampNeg (vp_nar .short (nI (zt_run lo hi sk k s)).toInt16.toInt32) = upd be s (nI (zt_run lo hi sk k s)) := by
      rw [nI_clamp (by omega), zb_ss (by omega)]
    exact br_t (nI_le (by omega) (by omega)) ⟨vp_in_nI (by omega) (by omega), nm_r e1 (nm_r (nI_1 s) HJ)⟩
  | succ d ih =>
    intro k hk
    have h := ih (k + 1) (by omega)
    have h1 := hr k
    rw [zt_run] at h
    by_cases hq : sk k = true
    · rw [if_pos hq] at h
      exact br_f (nI_ge (by omega) (by omega)) (br_t ((hsk k (by omega)).mpr hq) (nm_r (nI_1 k) h))
    · rw [if_neg hq] at h
      exact br_f (nI_ge (by omega) (by omega)) (br_f (fun q => hq ((hsk k (by omega)).mp q)) (zx_behind I (by omega) (by omega) (nm_r (nI_1 k) h)))
theorem zx_fs2 {post : SX → Prop} (I : zx_I n c lo hi al ah) {m : Nat} {x2 : Int32} {sk : Nat → Bool} (hm : m ≤ 24) (hsk : ∀ k, k < 24 → (nI k = x2 ↔ sk k = true)) (H : post (nI n, nI c, al, ah, gi, wi, zx_cp (2 ^ n) (fun s => nI (zt_run lo hi sk m s)) be, wh, ch, ro, pr)) : ∀ (d i : Nat), i + d = 2 ^ n → wX_findSets_2 post (nI m) x2 (nI n) (nI c) (d + 1) (nI i) al ah gi wi (zx_cp i (fun s => nI (zt_run lo hi sk m s)) be) wh ch ro pr := by
  have h7 := I.1.2.1
  have hp := zb_pw h7
  have e0 : (1 : Int32) <<< (nI n &&& 31) = nI (2 ^ n) := zb_one (by omega)
  intro d
  induction d with
  | zero =>
    intro i hi'
    have e : i = 2 ^ n := by omega
    subst e
    rw [wX_findSets_2, e0]
    exact br_t (nI_le (by omega) (by omega)) H
  | succ d ih =>
    intro i hi'
    have h := ih (i + 1) (by omega)
    rw [← zx_cps] at h
    rw [wX_findSets_2, e0]
    exact br_f (nI_ge (by omega) (by omega)) ⟨_, zx_fs18 I hm (by omega) hsk h m 0 (by omega)⟩
theorem zx_fs {post : SX → Prop} (I : zx_I n c lo hi al ah) {m : Nat} {x2 : Int32} {sk : Nat → Bool} (hm : m ≤ 24) (hsk : ∀ k, k < 24 → (nI k = x2 ↔ sk k = true)) (H : post (nI n, nI c, al, ah, gi, wi, zx_cp (2 ^ n) (fun s => nI (zt_run lo hi sk m s)) be, wh, ch, ro, pr)) : wpX_findSets post (nI n, nI c, al, ah, gi, wi, be, wh, ch, ro, pr) (nI m) x2 := by
  have h := zx_fs2 I hm hsk H (2 ^ n) 0 (by omega)
  rw [zx_cp0] at h
  exact ⟨_, h⟩
theorem zx_sk0 : ∀ k, k < 24 → (nI k = (-1 : Int32) ↔ zp_no k = true) := by decide +kernel
def zx_skk (m : Nat) : Nat → Bool := fun k => Nat.beq k m
theorem zx_sk1 {m : Nat} (hm : m < 24) : ∀ k, k < 24 → (nI k = nI m ↔ zx_skk m k = true) := by
  intro k hk
  rw [nI_eq (by omega) (by omega)]
  unfold zx_skk
  exact ⟨fun e => by rw [e]; exact Nat.beq_refl m, fun e => Nat.eq_of_beq_eq_true e⟩
theorem zx_size4 {post : Int32 → Prop} (h7 : n ≤ 7) {s : Nat} (hs : s < 2 ^ 31) (H : post (nI (zw_pc n s))) : ∀ (d i : Nat), i + d = n → wX_sizeOf_4 post (nI s) (nI n) (nI c) al ah gi wi be wh ch ro pr (d + 1) (nI (zw_pc i s)) (nI i) := by
  intro d
  induction d with
  | zero =>
    intro i hi'
    have e : i = n := by omega
    subst e
    exact br_t (nI_le (by omega) (by omega)) H
  | succ d ih =>
    intro i hi'
    have e : nI (zw_pc i s) + ((nI s >>> (nI i &&& 31)) &&& 1) = nI (zw_pc (i + 1) s) := by
      rw [zb_bit hs (by omega), nI_add, ← Nat.toNat_testBit]
      rfl
    exact br_f (nI_ge (by omega) (by omega)) (nm_r e (nm_r (nI_1 i) (ih (i + 1) (by omega))))
theorem zx_size {post : Int32 → Prop} (h7 : n ≤ 7) {s : Nat} (hs : s < 2 ^ 31) (H : post (nI (zw_pc n s))) : wpX_sizeOf post (nI n, nI c, al, ah, gi, wi, be, wh, ch, ro, pr) (nI s) := ⟨_, zx_size4 h7 hs H n 0 (by omega)⟩
theorem zx_inp {post : Int32 → Prop} (h7 : n ≤ 7) {s B : Nat} (hs : s < 2 ^ n) (hb : be s = nI B) (hB : B < 2 ^ n) (H : post (zx_b (B == 2 ^ n - 2 ^ (n - zw_pc n s)))) : wpX_inPlace post (nI n, nI c, al, ah, gi, wi, be, wh, ch, ro, pr) (nI s) := by
  have hp := zb_pw h7
  have hle := zw_pc_le n s
  have hpw : 2 ^ (n - zw_pc n s) ≤ 2 ^ n := Nat.pow_le_pow_right (by omega) (by omega)
  have e : be (nI s).toNatClampNeg = nI B := by rw [nI_clamp (by omega), hb]
  have e2 : ((1 : Int32) <<< (nI n &&& 31)) - ((1 : Int32) <<< ((nI n - nI (zw_pc n s)) &&& 31)) = nI (2 ^ n - 2 ^ (n - zw_pc n s)) := by
    rw [pk_sub hle, zb_one (by omega), zb_one (by omega), pk_sub hpw]
  unfold wpX_inPlace
  dsimp only
  refine zx_size h7 (by omega) ⟨vp_in_nI (by omega) (by omega), ?_⟩
  rw [e, e2]
  have hq : 2 ^ n - 2 ^ (n - zw_pc n s) ≤ 128 := Nat.le_trans (Nat.sub_le _ _) hp
  generalize 2 ^ n - 2 ^ (n - zw_pc n s) = q at H hq ⊢
  by_cases h : B = q
  · rw [beq_iff_eq.mpr h] at H
    exact br_t (by rw [h]) H
  · rw [beq_eq_false_iff_ne.mpr h] at H
    exact br_f (fun z => h ((nI_eq (by omega) (by omega)).mp z)) H
theorem zx_sorts13 {post : Int32 → SX → Prop} (h7 : n ≤ 7) {B : Nat → Nat} {g : Nat → Bool} (hb : ∀ s, s < 2 ^ n → be s = nI (B s) ∧ B s < 2 ^ n ∧ g s = (B s == 2 ^ n - 2 ^ (n - zw_pc n s))) (H : post (zx_b (zx_all g (2 ^ n))) (nI n, nI c, al, ah, gi, wi, be, wh, ch, ro, pr)) : ∀ (d i : Nat), i + d = 2 ^ n → wX_sorts_13 post (nI n) (nI c) al ah gi wi be wh ch ro pr (d + 1) (zx_b (zx_all g i)) (nI i) := by
  have hp := zb_pw h7
  have e0 : (1 : Int32) <<< (nI n &&& 31) = nI (2 ^ n) := zb_one (by omega)
  intro d
  induction d with
  | zero =>
    intro i hi'
    have e : i = 2 ^ n := by omega
    subst e
    rw [wX_sorts_13, e0]
    refine br_t (nI_le (by omega) (by omega)) ?_
    generalize zx_all g (2 ^ n) = b at H ⊢
    cases b
    · exact br_t rfl H
    · exact br_f (by decide) H
  | succ d ih =>
    intro i hi'
    have h := ih (i + 1) (by omega)
    obtain ⟨h1, h2, h3⟩ := hb i (by omega)
    rw [zx_all, h3] at h
    rw [wX_sorts_13, e0]
    refine br_f (nI_ge (by omega) (by omega)) (zx_inp h7 (by omega) h1 h2 ?_)
    generalize zx_all g i = a at h ⊢
    generalize (B i == 2 ^ n - 2 ^ (n - zw_pc n i)) = b at h ⊢
    cases a
    · exact br_t rfl (nm_r (nI_1 i) h)
    · cases b
      · exact br_f (by decide) (br_t rfl (nm_r (nI_1 i) h))
      · exact br_f (by decide) (br_f (by decide) (nm_r (nI_1 i) h))
end
end
section
/-! the component: chains, ranks, less -/
def zx_CH (n : Nat) (g : Nat → Bool) (s : Nat) : Nat := zw_C n g (zw_pc n s) s
theorem zx_CH0 (n : Nat) (g : Nat → Bool) : zx_CH n g 0 = 1 := by
  unfold zx_CH
  rw [zw_pc_z, zw_C]
theorem zx_CHs {n : Nat} (g : Nat → Bool) {s : Nat} (hs : s < 2 ^ n) (h0 : s ≠ 0) : zx_CH n g s = if g s then zs_s (fun x => if s.testBit x then zx_CH n g (s ^^^ 2 ^ x) else 0) n else 0 := by
  obtain ⟨m, hm⟩ : ∃ m, zw_pc n s = m + 1 := by
    refine ⟨zw_pc n s - 1, ?_⟩
    have h : zw_pc n s ≠ 0 := fun q => h0 (zw_pc_0 hs q)
    omega
  have e : zx_CH n g s = zw_C n g (m + 1) s := by unfold zx_CH; rw [hm]
  rw [e, zw_C]
  congr 1
  apply zs_congr
  intro x hx
  by_cases hb : s.testBit x = true
  · rw [if_pos hb, if_pos hb]
    have h1 := zw_pc_xor hx hb
    have h2 : zw_pc n (s ^^^ 2 ^ x) = m := by omega
    unfold zx_CH
    rw [h2]
  · rw [if_neg hb, if_neg hb]
theorem zx_xlt {s x : Nat} (hb : s.testBit x = true) : s ^^^ 2 ^ x < s := by
  have h1 : s ^^^ 2 ^ x ≤ s := by
    apply Nat.le_of_testBit
    intro i hi
    rw [Nat.testBit_xor, Nat.testBit_two_pow] at hi
    by_cases e : x = i
    · subst e; exact hb
    · simpa [e] using hi
  have h2 : s ^^^ 2 ^ x ≠ s := by
    intro q
    have h3 := zw_xor_b s x
    rw [q, hb] at h3
    exact absurd h3 (by decide)
  omega
section
variable {n c : Nat} {lo hi : Nat → Nat} {al ah gi wi be wh ch ro pr : Nat → Int32}
theorem zx_sorted32 {post : Int32 → SX → Prop} {J : Int32 → (Nat → Int32) → (Nat → Int32) → (Nat → Int32) → (Nat → Int32) → (Nat → Int32) → (Nat → Int32) → (Nat → Int32) → (Nat → Int32) → (Nat → Int32) → Prop} (h7 : n ≤ 7) {B : Nat → Nat} {g : Nat → Bool} (hb : ∀ s, s < 2 ^ n → be s = nI (B s) ∧ B s < 2 ^ n ∧ g s = (B s == 2 ^ n - 2 ^ (n - zw_pc n s))) {s : Nat} (hs : s < 2 ^ n) (h0 : s ≠ 0) (hch : ∀ t, t < s → ch t = nI (zx_CH n g t)) (HJ : J (nI (s + 1)) al ah gi wi be wh (upd ch s (nI (zx_CH n g s))) ro pr) : ∀ (d i : Nat), i + d = n → wX_sorted_32 post J (nI s) (nI n) (nI c) al ah gi wi be wh ch ro pr (d + 1) (nI (zs_s (fun x => if s.testBit x then zx_CH n g (s ^^^ 2 ^ x) else 0) i)) (nI i) := by
  have hp := zb_pw h7
  have c0 : (nI s).toNatClampNeg = s := nI_clamp (by omega)
  have hv : vp_in (nI s) 128 := vp_in_nI (by omega) (by omega)
  intro d
  induction d with
  | zero =>
    intro i hi'
    have e : i = n := by omega
    subst e
    obtain ⟨h1, h2, h3⟩ := hb s hs
    rw [zx_CHs g hs h0, h3] at HJ
    refine br_t (nI_le (by omega) (by omega)) (zx_inp h7 hs h1 h2 ?_)
    generalize (B s == 2 ^ i - 2 ^ (i - zw_pc i s)) = b at HJ ⊢
    cases b
    · refine br_t rfl ⟨hv, nm_r (e' := upd ch s 0) (by rw [c0]) (nm_r (nI_1 s) ?_)⟩
      exact HJ
    · refine br_f (by decide) ⟨hv, nm_r (e' := upd ch s (nI (zs_s (fun x => if s.testBit x then zx_CH i g (s ^^^ 2 ^ x) else 0) i))) (by rw [c0]) (nm_r (nI_1 s) ?_)⟩
      exact HJ
  | succ d ih =>
    intro i hi'
    have h := ih (i + 1) (by omega)
    rw [zs_s] at h
    have e1 : (nI s >>> (nI i &&& 31)) &&& 1 = nI (s / 2 ^ i % 2) := zb_bit (by omega) (by omega)
    have e2 : nI s ^^^ ((1 : Int32) <<< (nI i &&& 31)) = nI (s ^^^ 2 ^ i) := by rw [zb_one (by omega), nx_xor]
    refine br_f (nI_ge (by omega) (by omega)) ?_
    rw [e1, e2, zt_bd]
    by_cases hbit : s.testBit i = true
    · have hlt := zx_xlt hbit
      rw [if_pos hbit] at h ⊢
      have e3 : nI (zs_s (fun x => if s.testBit x then zx_CH n g (s ^^^ 2 ^ x) else 0) i) + ch (nI (s ^^^ 2 ^ i)).toNatClampNeg = nI (zs_s (fun x => if s.testBit x then zx_CH n g (s ^^^ 2 ^ x) else 0) i + zx_CH n g (s ^^^ 2 ^ i)) := by
        rw [nI_clamp (by omega), hch _ hlt, nI_add]
      exact br_t rfl ⟨vp_in_nI (by omega) (by omega), nm_r e3 (nm_r (nI_1 i) h)⟩
    · rw [if_neg hbit, Nat.add_zero] at h
      rw [if_neg hbit]
      exact br_f (by decide) (nm_r (nI_1 i) h)
theorem zx_sorted18 {post : Int32 → SX → Prop} (h7 : n ≤ 7) {B : Nat → Nat} {g : Nat → Bool} (hb : ∀ s, s < 2 ^ n → be s = nI (B s) ∧ B s < 2 ^ n ∧ g s = (B s == 2 ^ n - 2 ^ (n - zw_pc n s))) (H : post (nI (zx_CH n g (2 ^ n - 1))) (nI n, nI c, al, ah, gi, wi, be, wh, zx_cp (2 ^ n) (fun s => nI (zx_CH n g s)) ch, ro, pr)) : ∀ (d i : Nat), i ≠ 0 → i + d = 2 ^ n → wX_sorted_18 post (nI n) (nI c) (d + 1) (nI i) al ah gi wi be wh (zx_cp i (fun s => nI (zx_CH n g s)) ch) ro pr := by
  have hp := zb_pw h7
  have e0 : (1 : Int32) <<< (nI n &&& 31) = nI (2 ^ n) := zb_one (by omega)
  intro d
  induction d with
  | zero =>
    intro i h0 hi'
    have e : i = 2 ^ n := by omega
    subst e
    have hpos := Nat.two_pow_pos n
    have e1 : nI (2 ^ n) - 1 = nI (2 ^ n - 1) := pk_sub (b := 1) (by omega)
    rw [wX_sorted_18, e0, e1]
    refine br_t (nI_le (by omega) (by omega)) ⟨vp_in_nI (by omega) (by omega), ?_⟩
    rw [nI_clamp (by omega), zx_cpl (by omega)]
    exact H
  | succ d ih =>
    intro i h0 hi'
    have h := ih (i + 1) (by omega) (by omega)
    rw [← zx_cps] at h
    rw [wX_sorted_18, e0]
    have hch : ∀ t, t < i → zx_cp i (fun s => nI (zx_CH n g s)) ch t = nI (zx_CH n g t) := fun t ht => zx_cpl ht
    exact br_f (nI_ge (by omega) (by omega)) ⟨_, zx_sorted32 h7 hb (by omega) h0 hch h n 0 (by omega)⟩
theorem zx_ord {post : Int32 → Prop} (h7 : n ≤ 7) (hpr : ∀ k, k < 8 → pr k = nI (zw_f k)) {s : Nat} (hs : s < 2 ^ 31) (hpc : zw_pc n s < n) (H : post (nI (zw_f (zw_pc n s) * zw_f (n - 1 - zw_pc n s)))) : wpX_ordersAt post (nI n, nI c, al, ah, gi, wi, be, wh, ch, ro, pr) (nI s) := by
  unfold wpX_ordersAt
  dsimp only
  refine zx_size h7 hs ?_
  generalize zw_pc n s = q at *
  obtain ⟨m, rfl⟩ : ∃ m, n = m + 1 := ⟨n - 1, by omega⟩
  have e1 : (nI (m + 1) - 1) - nI q = nI (m - q) := by rw [nI_pred, pk_sub (by omega)]
  rw [e1, nI_clamp (by omega), nI_clamp (by omega), hpr q (by omega), hpr (m - q) (by omega), pk_mul]
  exact ⟨vp_in_nI (by omega) (by omega), vp_in_nI (by omega) (by omega), H⟩
def zx_T (n : Nat) (Q : Nat → Nat → Nat) (s x : Nat) : Nat := if s.testBit x then 0 else Q s x * (zw_f (zw_pc n s) * zw_f (n - 1 - zw_pc n s))
theorem zx_r103 {post : Int32 → SX → Prop} {J : Int32 → Int32 → Prop} (h7 : n ≤ 7) (hpr : ∀ k, k < 8 → pr k = nI (zw_f k)) {B : Nat → Nat} (hb : ∀ s, s < 2 ^ n → be s = nI (B s) ∧ B s < 2 ^ n) {v s x a k : Nat} {x2 : Int32} (z : Bool) (hv : v < n) (hs : s < 2 ^ n) (hx : x < n) (hz : z = true → zw_pc n s < n) (HJ : J (nI (a + (if z = true ∧ (B s).testBit v ≠ (B (s ||| 2 ^ x)).testBit v then 1 else 0) * (zw_f (zw_pc n s) * zw_f (n - 1 - zw_pc n s)))) (nI (k + 1))) : wX_ranks_103 post J (nI v) x2 (nI a) (nI k) (nI s) (nI x) (zx_b z) (nI n) (nI c) al ah gi wi be wh ch ro pr := by
  have hp := zb_pw h7
  have hs2 := zw_or_lt hs hx
  obtain ⟨q1, q2⟩ := hb s hs
  obtain ⟨q3, q4⟩ := hb _ hs2
  have o1 : nI s ||| ((1 : Int32) <<< (nI x &&& 31)) = nI (s ||| 2 ^ x) := by rw [zb_one (by omega), zb_or]
  have e1 : ((be (nI s).toNatClampNeg) >>> (nI v &&& 31)) &&& 1 = nI (B s / 2 ^ v % 2) := by rw [nI_clamp (by omega), q1, zb_bit (by omega) (by omega)]
  have e2 : ((be (nI (s ||| 2 ^ x)).toNatClampNeg) >>> (nI v &&& 31)) &&& 1 = nI (B (s ||| 2 ^ x) / 2 ^ v % 2) := by rw [nI_clamp (by omega), q3, zb_bit (by omega) (by omega)]
  unfold wX_ranks_103
  rw [o1]
  refine ⟨vp_in_nI (by omega) (by omega), nm_r e1 ⟨vp_in_nI (by omega) (by omega), nm_r e2 ?_⟩⟩
  rw [zt_bd, zt_bd]
  generalize (B s).testBit v = b1 at HJ ⊢
  generalize (B (s ||| 2 ^ x)).testBit v = b2 at HJ ⊢
  cases z
  · rw [if_neg (fun q => absurd q.1 (by decide)), Nat.zero_mul, Nat.add_zero] at HJ
    exact br_t rfl (nm_r (nI_1 k) HJ)
  · by_cases hbb : b1 = b2
    · rw [if_neg (fun q => q.2 hbb), Nat.zero_mul, Nat.add_zero] at HJ
      exact br_f (by decide) (br_t (by rw [hbb]) (nm_r (nI_1 k) HJ))
    · rw [if_pos ⟨rfl, hbb⟩, Nat.one_mul, ← nI_add] at HJ
      refine br_f (by decide) (br_f ?_ (zx_ord h7 hpr (by omega) (hz rfl) (nm_e (nm_r (nI_1 k) HJ))))
      cases b1 <;> cases b2 <;> first | exact absurd rfl hbb | decide
theorem zx_ranks37 {post : Int32 → SX → Prop} (h2 : 2 ≤ n) (h7 : n ≤ 7) (hpr : ∀ k, k < 8 → pr k = nI (zw_f k)) {m : Nat} {sk : Nat → Bool} (hb : ∀ s, s < 2 ^ n → be s = nI (zt_run lo hi sk m s) ∧ zt_run lo hi sk m s < 2 ^ n) {v r : Nat} (hv : v < n) (h1r : 1 ≤ r) (hr : r ≤ n) (H : post (nI (zs_s (fun k => zx_T n (zc_Qr n m lo hi sk v r) (k / n) (k % n)) (2 ^ n * n))) (nI n, nI c, al, ah, gi, wi, be, wh, ch, ro, pr)) : ∀ (d k : Nat), k + d = 2 ^ n * n → wX_ranks_37 post (nI v) (nI r) (nI n) (nI c) al ah gi wi be wh ch ro pr (d + 1) (nI (zs_s (fun k => zx_T n (zc_Qr n m lo hi sk v r) (k / n) (k % n)) k)) (nI k) := by
  have hp := zb_pw h7
  have hN : 2 ^ n * n ≤ 128 * 7 := Nat.mul_le_mul hp h7
  have e0 : nI n <<< (nI n &&& 31) = nI (2 ^ n * n) := by
    rw [pk_shlN (nI n &&& 31) n (s_l n (by omega)) (by rw [Nat.mul_comm]; omega), Nat.mul_comm]
  have hn0 : ¬ nI n = 0 := nI_ne0 (by omega) (by omega)
  intro d
  induction d with
  | zero =>
    intro k hk
    have e : k = 2 ^ n * n := by omega
    subst e
    rw [wX_ranks_37, e0]
    exact br_t (nI_le (by omega) (by omega)) H
  | succ d ih =>
    intro k hk
    have h := ih (k + 1) (by omega)
    rw [zs_s] at h
    have hs : k / n < 2 ^ n := Nat.div_lt_of_lt_mul (by rw [Nat.mul_comm]; omega)
    have hx : k % n < n := Nat.mod_lt _ (by omega)
    rw [wX_ranks_37, e0]
    refine br_f (nI_ge (by omega) (by omega)) ⟨hn0, nm_r (pk_div (by omega) (by omega) (by omega)) ⟨hn0, nm_r (pk_rem (by omega) (by omega) (by omega)) (zx_size h7 (by omega) ?_)⟩⟩
    generalize k / n = s at h hs ⊢
    generalize k % n = x at h hx ⊢
    have e1 : (nI s >>> (nI x &&& 31)) &&& 1 = nI (s / 2 ^ x % 2) := zb_bit (by omega) (by omega)
    have e2 : nI n - nI r = nI (n - r) := pk_sub hr
    have hle := zw_pc_le n s
    rw [e1, e2, zt_bd]
    unfold zx_T zc_Qr at h
    by_cases hbit : s.testBit x = true
    · rw [if_pos hbit, Nat.add_zero] at h
      rw [if_pos hbit]
      refine br_f (by decide) (zx_r103 h7 hpr hb false hv hs hx (fun q => absurd q (by decide)) ?_)
      rw [if_neg (fun q => absurd q.1 (by decide)), Nat.zero_mul, Nat.add_zero]
      exact h
    · rw [if_neg hbit] at h
      rw [if_neg hbit]
      have hlt := zw_pc_lt hx (Bool.eq_false_iff.mpr hbit)
      by_cases hpc : zw_pc n s = n - r
      · refine br_t rfl (br_t (by rw [hpc]) (zx_r103 h7 hpr hb true hv hs hx (fun _ => hlt) ?_))
        by_cases hd : (zt_run lo hi sk m s).testBit v ≠ (zt_run lo hi sk m (s ||| 2 ^ x)).testBit v
        · rw [if_pos ⟨hpc, hd⟩] at h
          rw [if_pos ⟨rfl, hd⟩]
          exact h
        · rw [if_neg (fun q => hd q.2)] at h
          rw [if_neg (fun q => hd q.2)]
          exact h
      · refine br_t rfl (br_f (fun q => hpc ((nI_eq (by omega) (by omega)).mp q)) (zx_r103 h7 hpr hb false hv hs hx (fun q => absurd q (by decide)) ?_))
        rw [if_neg (fun q => hpc q.1), Nat.zero_mul, Nat.add_zero] at h
        rw [if_neg (fun q => absurd q.1 (by decide)), Nat.zero_mul, Nat.add_zero]
        exact h
theorem zx_l103 {post : Int32 → Prop} {J : Int32 → Int32 → Prop} (h7 : n ≤ 7) (hpr : ∀ k, k < 8 → pr k = nI (zw_f k)) {s a k : Nat} {x1 x2 : Int32} (z : Bool) (hs : s < 2 ^ n) (hz : z = true → zw_pc n s < n) (HJ : J (nI (a + (if z = true then 1 else 0) * (zw_f (zw_pc n s) * zw_f (n - 1 - zw_pc n s)))) (nI (k + 1))) : wX_lessOn_103 post J x1 x2 (nI a) (nI k) (nI s) (zx_b z) (nI n) (nI c) al ah gi wi be wh ch ro pr := by
  have hp := zb_pw h7
  unfold wX_lessOn_103
  cases z
  · rw [if_neg (by decide), Nat.zero_mul, Nat.add_zero] at HJ
    exact br_t rfl (nm_r (nI_1 k) HJ)
  · rw [if_pos rfl, Nat.one_mul, ← nI_add] at HJ
    exact br_f (by decide) (zx_ord h7 hpr (by omega) (hz rfl) (nm_e (nm_r (nI_1 k) HJ)))
theorem zx_less5 {post : Int32 → Prop} (h2 : 2 ≤ n) (h7 : n ≤ 7) (hpr : ∀ k, k < 8 → pr k = nI (zw_f k)) {m : Nat} {sk : Nat → Bool} (hb : ∀ s, s < 2 ^ n → be s = nI (zt_run lo hi sk m s) ∧ zt_run lo hi sk m s < 2 ^ n) {v u : Nat} (hv : v < n) (hu : u < n) (H : post (nI (zs_s (fun k => zx_T n (zc_Ql m lo hi sk v u) (k / n) (k % n)) (2 ^ n * n)))) : ∀ (d k : Nat), k + d = 2 ^ n * n → wX_lessOn_5 post (nI v) (nI u) (nI n) (nI c) al ah gi wi be wh ch ro pr (d + 1) (nI (zs_s (fun k => zx_T n (zc_Ql m lo hi sk v u) (k / n) (k % n)) k)) (nI k) := by
  have hp := zb_pw h7
  have hN : 2 ^ n * n ≤ 128 * 7 := Nat.mul_le_mul hp h7
  have e0 : nI n <<< (nI n &&& 31) = nI (2 ^ n * n) := by
    rw [pk_shlN (nI n &&& 31) n (s_l n (by omega)) (by rw [Nat.mul_comm]; omega), Nat.mul_comm]
  have hn0 : ¬ nI n = 0 := nI_ne0 (by omega) (by omega)
  intro d
  induction d with
  | zero =>
    intro k hk
    have e : k = 2 ^ n * n := by omega
    subst e
    rw [wX_lessOn_5, e0]
    exact br_t (nI_le (by omega) (by omega)) H
  | succ d ih =>
    intro k hk
    have h := ih (k + 1) (by omega)
    rw [zs_s] at h
    have hs : k / n < 2 ^ n := Nat.div_lt_of_lt_mul (by rw [Nat.mul_comm]; omega)
    have hx : k % n < n := Nat.mod_lt _ (by omega)
    rw [wX_lessOn_5, e0]
    refine br_f (nI_ge (by omega) (by omega)) ⟨hn0, nm_r (pk_div (by omega) (by omega) (by omega)) ⟨hn0, nm_r (pk_rem (by omega) (by omega) (by omega)) ?_⟩⟩
    generalize k / n = s at h hs ⊢
    generalize k % n = x at h hx ⊢
    have hs2 := zw_or_lt hs hx
    obtain ⟨q1, q2⟩ := hb s hs
    obtain ⟨q3, q4⟩ := hb _ hs2
    have o1 : nI s ||| ((1 : Int32) <<< (nI x &&& 31)) = nI (s ||| 2 ^ x) := by rw [zb_one (by omega), zb_or]
    have e5 : be (nI s).toNatClampNeg = nI (zt_run lo hi sk m s) := by rw [nI_clamp (by omega), q1]
    have e6 : be (nI (s ||| 2 ^ x)).toNatClampNeg = nI (zt_run lo hi sk m (s ||| 2 ^ x)) := by rw [nI_clamp (by omega), q3]
    have hlt : ¬ s.testBit x = true → zw_pc n s < n := fun q => zw_pc_lt hx (Bool.eq_false_iff.mpr q)
    rw [o1]
    refine ⟨vp_in_nI (by omega) (by omega), nm_r e5 ⟨vp_in_nI (by omega) (by omega), nm_r e6 ?_⟩⟩
    rw [zb_bit (by omega) (by omega), zb_bit (by omega) (by omega), zb_bit (by omega) (by omega), zb_bit (by omega) (by omega), zt_bd, zt_bd, zt_bd, zt_bd]
    unfold zx_T zc_Ql at h
    generalize (zt_run lo hi sk m s).testBit u = b1 at h ⊢
    generalize (zt_run lo hi sk m (s ||| 2 ^ x)).testBit u = b2 at h ⊢
    generalize (zt_run lo hi sk m (s ||| 2 ^ x)).testBit v = b3 at h ⊢
    by_cases hbit : s.testBit x = true
    · rw [if_pos hbit, Nat.add_zero] at h
      rw [if_pos hbit]
      exact br_f (by decide) (zx_l103 h7 hpr false hs (fun q => absurd q (by decide)) (by rw [if_neg (by decide), Nat.zero_mul, Nat.add_zero]; exact h))
    · rw [if_neg hbit] at h
      rw [if_neg hbit]
      refine br_t rfl ?_
      cases b1
      · refine br_t rfl ?_
        cases b2
        · rw [if_neg (fun q => absurd q.2.1 (by decide)), Nat.zero_mul, Nat.add_zero] at h
          exact br_f (by decide) (zx_l103 h7 hpr false hs (fun q => absurd q (by decide)) (by rw [if_neg (by decide), Nat.zero_mul, Nat.add_zero]; exact h))
        · refine br_t rfl ?_
          cases b3
          · rw [if_pos (by decide)] at h
            exact br_t rfl (zx_l103 h7 hpr true hs (fun _ => hlt hbit) (by rw [if_pos rfl]; exact h))
          · rw [if_neg (by decide), Nat.zero_mul, Nat.add_zero] at h
            exact br_f (by decide) (zx_l103 h7 hpr false hs (fun q => absurd q (by decide)) (by rw [if_neg (by decide), Nat.zero_mul, Nat.add_zero]; exact h))
      · rw [if_neg (fun q => absurd q.1 (by decide)), Nat.zero_mul, Nat.add_zero] at h
        exact br_f (by decide) (zx_l103 h7 hpr false hs (fun q => absurd q (by decide)) (by rw [if_neg (by decide), Nat.zero_mul, Nat.add_zero]; exact h))
end
end
section
/-! the component's larger methods, each to its value -/
def zx_id (n c : Nat) (lo hi : Nat → Nat) (k : Nat) : Bool := zx_all (fun s => zt_run lo hi (zx_skk k) c s == zt_run lo hi zp_no c s) (2 ^ n)
section
variable {n c : Nat} {lo hi : Nat → Nat} {al ah gi wi be wh ch ro pr : Nat → Int32}
theorem zx_hb (I : zx_I n c lo hi al ah) (sk : Nat → Bool) (m : Nat) (be : Nat → Int32) : ∀ s, s < 2 ^ n → (zx_cp (2 ^ n) (fun s => nI (zt_run lo hi sk m s)) be) s = nI (zt_run lo hi sk m s) ∧ zt_run lo hi sk m s < 2 ^ n :=
  fun _ hs => ⟨zx_cpl hs, zt_run_lt sk hs I.2.2.2.1 I.2.2.2.2 m⟩
theorem zx_sorts {post : Int32 → SX → Prop} (I : zx_I n c lo hi al ah) (H : ∀ be, post (zx_b (zx_all (zc_good n c lo hi zp_no) (2 ^ n))) (nI n, nI c, al, ah, gi, wi, be, wh, ch, ro, pr)) : wpX_sorts post (nI n, nI c, al, ah, gi, wi, be, wh, ch, ro, pr) := by
  have h7 := I.1.2.1
  have hc := I.1.2.2
  unfold wpX_sorts
  dsimp only
  refine zx_fs I hc zx_sk0 ?_
  dsimp only
  exact ⟨_, zx_sorts13 h7 (g := zc_good n c lo hi zp_no) (fun s hs => ⟨(zx_hb I zp_no c be s hs).1, (zx_hb I zp_no c be s hs).2, rfl⟩) (H _) (2 ^ n) 0 (by omega)⟩
theorem zx_sorted {post : Int32 → SX → Prop} (I : zx_I n c lo hi al ah) (H : ∀ be ch, post (nI (zx_CH n (zc_good n c lo hi zp_no) (2 ^ n - 1))) (nI n, nI c, al, ah, gi, wi, be, wh, ch, ro, pr)) : wpX_sorted post (nI n, nI c, al, ah, gi, wi, be, wh, ch, ro, pr) := by
  have h7 := I.1.2.1
  have hc := I.1.2.2
  have hpos := Nat.two_pow_pos n
  have e : upd ch 0 1 = zx_cp 1 (fun s => nI (zx_CH n (zc_good n c lo hi zp_no) s)) ch := by
    have h := zx_cps 0 (fun s => nI (zx_CH n (zc_good n c lo hi zp_no) s)) ch
    rw [zx_cp0, zx_CH0] at h
    exact h
  unfold wpX_sorted
  dsimp only
  refine zx_fs I hc zx_sk0 ?_
  dsimp only
  exact nm_r e ⟨_, zx_sorted18 h7 (g := zc_good n c lo hi zp_no) (fun s hs => ⟨(zx_hb I zp_no c be s hs).1, (zx_hb I zp_no c be s hs).2, rfl⟩) (H _ _) (2 ^ n - 1) 1 (by omega) (by omega)⟩
theorem zx_ranks1 {post : Int32 → SX → Prop} {v w : Int32} (h : v < 0 ∨ nI n ≤ v) (H : post (-1) (nI n, nI c, al, ah, gi, wi, be, wh, ch, ro, pr)) : wpX_ranks post (nI n, nI c, al, ah, gi, wi, be, wh, ch, ro, pr) v w := by
  unfold wpX_ranks
  dsimp only
  exact zx_bad1 h (br_f (by decide) H)
theorem zx_ranks2 {post : Int32 → SX → Prop} (h7 : n ≤ 7) {v : Nat} {w : Int32} (hv : v < n) (h : w < 1 ∨ ¬ w ≤ nI n) (H : post (-1) (nI n, nI c, al, ah, gi, wi, be, wh, ch, ro, pr)) : wpX_ranks post (nI n, nI c, al, ah, gi, wi, be, wh, ch, ro, pr) (nI v) w := by
  unfold wpX_ranks
  dsimp only
  refine zx_bad0 h7 hv (br_t rfl ?_)
  by_cases h1 : w < 1
  · exact br_t h1 H
  · exact br_f h1 (br_f (h.resolve_left h1) H)
theorem zx_ranks0 {post : Int32 → SX → Prop} (I : zx_I n c lo hi al ah) (hpr : ∀ k, k < 8 → pr k = nI (zw_f k)) {v r : Nat} (hv : v < n) (h1 : 1 ≤ r) (hr : r ≤ n) (H : ∀ be, post (nI (zs_s (fun s => zs_s (fun x => if s.testBit x then 0 else zc_Qr n c lo hi zp_no v r s x * (zw_f (zw_pc n s) * zw_f (n - 1 - zw_pc n s))) n) (2 ^ n))) (nI n, nI c, al, ah, gi, wi, be, wh, ch, ro, pr)) : wpX_ranks post (nI n, nI c, al, ah, gi, wi, be, wh, ch, ro, pr) (nI v) (nI r) := by
  have h2 := I.1.1
  have h7 := I.1.2.1
  have hc := I.1.2.2
  have e := zs_pair (zx_T n (zc_Qr n c lo hi zp_no v r)) n (by omega) (2 ^ n)
  unfold wpX_ranks
  dsimp only
  refine zx_bad0 h7 hv (br_t rfl (br_f (nI_nlt (b := 1) h1 (by omega)) (br_t (nI_le hr (by omega)) (zx_fs I hc zx_sk0 ?_))))
  dsimp only
  refine ⟨_, zx_ranks37 h2 h7 hpr (zx_hb I zp_no c be) hv h1 hr ?_ (2 ^ n * n) 0 (by omega)⟩
  rw [e]
  exact H _
theorem zx_less {post : Int32 → Prop} (I : zx_I n c lo hi al ah) (hpr : ∀ k, k < 8 → pr k = nI (zw_f k)) (m : Nat) {v u : Nat} (hv : v < n) (hu : u < n) (H : post (nI (zs_s (fun s => zs_s (fun x => if s.testBit x then 0 else zc_Ql m lo hi zp_no v u s x * (zw_f (zw_pc n s) * zw_f (n - 1 - zw_pc n s))) n) (2 ^ n)))) : wpX_lessOn post (nI n, nI c, al, ah, gi, wi, zx_cp (2 ^ n) (fun s => nI (zt_run lo hi zp_no m s)) be, wh, ch, ro, pr) (nI v) (nI u) := by
  have h2 := I.1.1
  have h7 := I.1.2.1
  have e := zs_pair (zx_T n (zc_Ql m lo hi zp_no v u)) n (by omega) (2 ^ n)
  refine ⟨_, zx_less5 h2 h7 hpr (zx_hb I zp_no m be) hv hu ?_ (2 ^ n * n) 0 (by omega)⟩
  rw [e]
  exact H
theorem zx_works1 {post : Int32 → SX → Prop} {v : Int32} (h : v < 0 ∨ nI c ≤ v) (H : post (-4) (nI n, nI c, al, ah, gi, wi, be, wh, ch, ro, pr)) : wpX_works post (nI n, nI c, al, ah, gi, wi, be, wh, ch, ro, pr) v := by
  by_cases h0 : v < 0
  · exact br_t h0 H
  · exact br_f h0 (br_f (Int32.not_lt.mpr (h.resolve_left h0)) H)
theorem zx_works0 {post : Int32 → SX → Prop} (I : zx_I n c lo hi al ah) (hpr : ∀ k, k < 8 → pr k = nI (zw_f k)) {k : Nat} (hk : k < c) (H : ∀ be, post (nI (zs_s (fun s => zs_s (fun x => if s.testBit x then 0 else zc_Ql k lo hi zp_no (hi k) (lo k) s x * (zw_f (zw_pc n s) * zw_f (n - 1 - zw_pc n s))) n) (2 ^ n))) (nI n, nI c, al, ah, gi, wi, be, wh, ch, ro, pr)) : wpX_works post (nI n, nI c, al, ah, gi, wi, be, wh, ch, ro, pr) (nI k) := by
  have hc := I.1.2.2
  have hv : vp_in (nI k) 24 := vp_in_nI (by omega) (by omega)
  have l1 : al (nI k).toNatClampNeg = nI (lo k) := by rw [nI_clamp (by omega), I.2.1]
  have l2 : ah (nI k).toNatClampNeg = nI (hi k) := by rw [nI_clamp (by omega), I.2.2.1]
  refine br_f (nI_pos (by omega)) (br_t (nI_lt hk (by omega)) (zx_fs I (by omega) zx_sk0 ?_))
  dsimp only
  rw [l1, l2]
  exact ⟨hv, hv, zx_less I hpr k (I.2.2.2.2 k) (I.2.2.2.1 k) (H _)⟩
theorem zx_below1 {post : Int32 → SX → Prop} {v w : Int32} (h : v < 0 ∨ nI n ≤ v) (H : post (-1) (nI n, nI c, al, ah, gi, wi, be, wh, ch, ro, pr)) : wpX_below post (nI n, nI c, al, ah, gi, wi, be, wh, ch, ro, pr) v w := by
  unfold wpX_below
  dsimp only
  exact zx_bad1 h (br_f (by decide) H)
theorem zx_below2 {post : Int32 → SX → Prop} (h7 : n ≤ 7) {v : Nat} {w : Int32} (hv : v < n) (h : w < 0 ∨ nI n ≤ w) (H : post (-1) (nI n, nI c, al, ah, gi, wi, be, wh, ch, ro, pr)) : wpX_below post (nI n, nI c, al, ah, gi, wi, be, wh, ch, ro, pr) (nI v) w := by
  unfold wpX_below
  dsimp only
  exact zx_bad0 h7 hv (br_t rfl (zx_bad1 h (br_f (by decide) H)))
theorem zx_below0 {post : Int32 → SX → Prop} (I : zx_I n c lo hi al ah) (hpr : ∀ k, k < 8 → pr k = nI (zw_f k)) {v u : Nat} (hv : v < n) (hu : u < n) (H : ∀ be, post (nI (zs_s (fun s => zs_s (fun x => if s.testBit x then 0 else zc_Ql c lo hi zp_no v u s x * (zw_f (zw_pc n s) * zw_f (n - 1 - zw_pc n s))) n) (2 ^ n))) (nI n, nI c, al, ah, gi, wi, be, wh, ch, ro, pr)) : wpX_below post (nI n, nI c, al, ah, gi, wi, be, wh, ch, ro, pr) (nI v) (nI u) := by
  have h7 := I.1.2.1
  have hc := I.1.2.2
  unfold wpX_below
  dsimp only
  refine zx_bad0 h7 hv (br_t rfl (zx_bad0 h7 hu (br_t rfl (zx_fs I hc zx_sk0 ?_))))
  dsimp only
  exact zx_less I hpr c hv hu (H _)
theorem zx_sw13 {post : Int32 → SX → Prop} (h7 : n ≤ 7) {B W : Nat → Nat} (hb : ∀ s, s < 2 ^ n → be s = nI (B s) ∧ B s < 2 ^ n) (hw : ∀ s, s < 2 ^ n → wh s = nI (W s) ∧ W s < 2 ^ n) (H : post (zx_b (zx_all (fun s => B s == W s) (2 ^ n))) (nI n, nI c, al, ah, gi, wi, be, wh, ch, ro, pr)) : ∀ (d i : Nat), i + d = 2 ^ n → wX_sameWithout_13 post (nI n) (nI c) al ah gi wi be wh ch ro pr (d + 1) (zx_b (zx_all (fun s => B s == W s) i)) (nI i) := by
  have hp := zb_pw h7
  have e0 : (1 : Int32) <<< (nI n &&& 31) = nI (2 ^ n) := zb_one (by omega)
  intro d
  induction d with
  | zero =>
    intro i hi'
    have e : i = 2 ^ n := by omega
    subst e
    rw [wX_sameWithout_13, e0]
    refine br_t (nI_le (by omega) (by omega)) ⟨?_, H⟩
    generalize zx_all (fun s => B s == W s) (2 ^ n) = b
    cases b
    · exact narrow_b0
    · exact narrow_b1
  | succ d ih =>
    intro i hi'
    have h := ih (i + 1) (by omega)
    obtain ⟨q1, q2⟩ := hb i (by omega)
    obtain ⟨q3, q4⟩ := hw i (by omega)
    rw [zx_all] at h
    have hv : vp_in (nI i) 128 := vp_in_nI (by omega) (by omega)
    have f1 : be (nI i).toNatClampNeg = nI (B i) := by rw [nI_clamp (by omega), q1]
    have f2 : wh (nI i).toNatClampNeg = nI (W i) := by rw [nI_clamp (by omega), q3]
    rw [wX_sameWithout_13, e0]
    refine br_f (nI_ge (by omega) (by omega)) ?_
    generalize zx_all (fun s => B s == W s) i = a at h ⊢
    cases a
    · exact br_t rfl (nm_r (nI_1 i) h)
    · refine br_f (by decide) ⟨hv, hv, ?_⟩
      rw [f1, f2]
      by_cases hq : B i = W i
      · rw [beq_iff_eq.mpr hq] at h
        exact br_t (by rw [hq]) (nm_r (nI_1 i) h)
      · rw [beq_eq_false_iff_ne.mpr hq] at h
        exact br_f (fun z => hq ((nI_eq (by omega) (by omega)).mp z)) (nm_r (nI_1 i) h)
theorem zx_same {post : Int32 → SX → Prop} (I : zx_I n c lo hi al ah) (hw : ∀ s, s < 2 ^ n → wh s = nI (zt_run lo hi zp_no c s) ∧ zt_run lo hi zp_no c s < 2 ^ n) {k : Nat} (hk : k < c) (H : ∀ be, post (zx_b (zx_id n c lo hi k)) (nI n, nI c, al, ah, gi, wi, be, wh, ch, ro, pr)) : wpX_sameWithout post (nI n, nI c, al, ah, gi, wi, be, wh, ch, ro, pr) (nI k) := by
  have h7 := I.1.2.1
  have hc := I.1.2.2
  unfold wpX_sameWithout
  dsimp only
  refine zx_fs I hc (zx_sk1 (by omega)) ?_
  dsimp only
  exact ⟨_, zx_sw13 h7 (zx_hb I (zx_skk k) c be) hw (H _) (2 ^ n) 0 (by omega)⟩
theorem zx_idle43 {post : Int32 → SX → Prop} (I : zx_I n c lo hi al ah) (hw : ∀ s, s < 2 ^ n → wh s = nI (zt_run lo hi zp_no c s) ∧ zt_run lo hi zp_no c s < 2 ^ n) (H : ∀ be, post (nI (zs_s (fun k => (zx_id n c lo hi k).toNat) c)) (nI n, nI c, al, ah, gi, wi, be, wh, ch, ro, pr)) : ∀ (d k : Nat) (be : Nat → Int32), k + d = c → wX_idle_43 post (d + 1) (nI (zs_s (fun k => (zx_id n c lo hi k).toNat) k)) (nI k) (nI n) (nI c) al ah gi wi be wh ch ro pr := by
  have hc := I.1.2.2
  intro d
  induction d with
  | zero =>
    intro k be hk
    have e : k = c := by omega
    subst e
    exact br_t (nI_le (by omega) (by omega)) (H be)
  | succ d ih =>
    intro k be hk
    refine br_f (nI_ge (by omega) (by omega)) (zx_same I hw (by omega) (fun be' => ?_))
    have h := ih (k + 1) be' (by omega)
    rw [zs_s] at h
    dsimp only
    generalize zx_id n c lo hi k = b at h ⊢
    cases b
    · exact br_t rfl (nm_r (nI_1 k) h)
    · exact br_f (by decide) (nm_r (nI_1 _) (nm_r (nI_1 k) h))
theorem zx_idle11 {post : Int32 → SX → Prop} (I : zx_I n c lo hi al ah) (hb : ∀ s, s < 2 ^ n → be s = nI (zt_run lo hi zp_no c s) ∧ zt_run lo hi zp_no c s < 2 ^ n) (H : ∀ be wh, post (nI (zs_s (fun k => (zx_id n c lo hi k).toNat) c)) (nI n, nI c, al, ah, gi, wi, be, wh, ch, ro, pr)) : ∀ (d i : Nat), i + d = 2 ^ n → wX_idle_11 post (nI n) (nI c) (d + 1) (nI i) al ah gi wi be (zx_cp i be wh) ch ro pr := by
  have h7 := I.1.2.1
  have hp := zb_pw h7
  have e0 : (1 : Int32) <<< (nI n &&& 31) = nI (2 ^ n) := zb_one (by omega)
  intro d
  induction d with
  | zero =>
    intro i hi'
    have e : i = 2 ^ n := by omega
    subst e
    rw [wX_idle_11, e0]
    exact br_t (nI_le (by omega) (by omega)) ⟨_, zx_idle43 I (fun s hs => ⟨(zx_cpl hs).trans (hb s hs).1, (hb s hs).2⟩) (fun be => H be _) c 0 be (by omega)⟩
  | succ d ih =>
    intro i hi'
    have h := ih (i + 1) (by omega)
    obtain ⟨q1, q2⟩ := hb i (by omega)
    have hv : vp_in (nI i) 128 := vp_in_nI (by omega) (by omega)
    have e : upd (zx_cp i be wh) (nI i).toNatClampNeg (vp_nar .short (be (nI i).toNatClampNeg)) = zx_cp (i + 1) be wh := by
      rw [nI_clamp (by omega), q1, zb_s (by omega), ← q1, zx_cps]
    rw [wX_idle_11, e0]
    exact br_f (nI_ge (by omega) (by omega)) ⟨hv, hv, nm_r e (nm_r (nI_1 i) h)⟩
theorem zx_idle {post : Int32 → SX → Prop} (I : zx_I n c lo hi al ah) (H : ∀ be wh, post (nI (zs_s (fun k => (zx_id n c lo hi k).toNat) c)) (nI n, nI c, al, ah, gi, wi, be, wh, ch, ro, pr)) : wpX_idle post (nI n, nI c, al, ah, gi, wi, be, wh, ch, ro, pr) := by
  have hc := I.1.2.2
  unfold wpX_idle
  dsimp only
  refine zx_fs I hc zx_sk0 ?_
  dsimp only
  have h := zx_idle11 (post := post) (gi := gi) (wi := wi) (wh := wh) (ch := ch) (ro := ro) (pr := pr) I (zx_hb I zp_no c be) H (2 ^ n) 0 (by omega)
  rw [zx_cp0] at h
  exact ⟨_, h⟩
end
end
section
/-! rounds, and the component's constructor -/
def zr_s (g : Nat → Int32) (i j : Nat) : Int32 := (if g i ≤ g j then g j else g i) + 1
def zr_g (lo hi : Nat → Nat) : Nat → Nat → Int32
  | 0 => fun _ => 0
  | k + 1 => upd (upd (zr_g lo hi k) (lo k) (zr_s (zr_g lo hi k) (lo k) (hi k))) (hi k) (zr_s (zr_g lo hi k) (lo k) (hi k))
def zr_m (lo hi : Nat → Nat) : Nat → Int32
  | 0 => 0
  | k + 1 => if zr_s (zr_g lo hi k) (lo k) (hi k) ≤ zr_m lo hi k then zr_m lo hi k else zr_s (zr_g lo hi k) (lo k) (hi k)
theorem zr_sb {g : Nat → Int32} {k : Nat} (h : ∀ x, ∃ j, j ≤ k ∧ g x = nI j) (a b : Nat) : ∃ j, j ≤ k + 1 ∧ zr_s g a b = nI j := by
  obtain ⟨j1, h1, e1⟩ := h a
  obtain ⟨j2, h2, e2⟩ := h b
  unfold zr_s
  split
  · exact ⟨j2 + 1, by omega, by rw [e2, nI_1]⟩
  · exact ⟨j1 + 1, by omega, by rw [e1, nI_1]⟩
theorem zr_b (lo hi : Nat → Nat) : ∀ k x, ∃ j, j ≤ k ∧ zr_g lo hi k x = nI j
  | 0, x => ⟨0, Nat.le_refl 0, rfl⟩
  | k + 1, x => by
    have ih := zr_b lo hi k
    have hs := zr_sb ih (lo k) (hi k)
    rw [zr_g]
    by_cases h1 : x = hi k
    · rw [h1, pk_us]; exact hs
    · rw [pk_un h1]
      by_cases h2 : x = lo k
      · rw [h2, pk_us]; exact hs
      · rw [pk_un h2]
        obtain ⟨j, hj, e⟩ := ih x
        exact ⟨j, by omega, e⟩
theorem zx_cpu {n i : Nat} (hi : i < n) (g b : Nat → Int32) (v : Int32) : upd (zx_cp n g b) i v = zx_cp n (upd g i v) b := by
  funext x
  by_cases h : x = i
  · rw [h, pk_us, zx_cpl hi, pk_us]
  · rw [pk_un h]
    by_cases h2 : x < n
    · rw [zx_cpl h2, zx_cpl h2, pk_un h]
    · rw [zx_cpg (by omega), zx_cpg (by omega)]
section
variable {n c : Nat} {lo hi : Nat → Nat} {al ah gi wi be wh ch ro pr : Nat → Int32}
theorem zx_ro85 {post : Int32 → SX → Prop} {J : Int32 → Int32 → (Nat → Int32) → (Nat → Int32) → (Nat → Int32) → (Nat → Int32) → (Nat → Int32) → (Nat → Int32) → (Nat → Int32) → (Nat → Int32) → (Nat → Int32) → Prop} (I : zx_I n c lo hi al ah) {k z : Nat} {mo : Int32} (hk : k < c) (hz : z + 1 < 128) (HJ : J (if nI (z + 1) ≤ mo then mo else nI (z + 1)) (nI (k + 1)) al ah gi wi be wh ch (upd (upd ro (lo k) (nI (z + 1))) (hi k) (nI (z + 1))) pr) : wX_rounds_85 post J mo (nI k) (nI z) (nI n) (nI c) al ah gi wi be wh ch ro pr := by
  obtain ⟨⟨h2, h7, hc⟩, hl, hh, bl, bh⟩ := I
  have b1 := bl k
  have b2 := bh k
  have hv : vp_in (nI k) 24 := vp_in_nI (by omega) (by omega)
  have l1 : al (nI k).toNatClampNeg = nI (lo k) := by rw [nI_clamp (by omega), hl]
  have l2 : ah (nI k).toNatClampNeg = nI (hi k) := by rw [nI_clamp (by omega), hh]
  have e1 : upd ro (nI (lo k)).toNatClampNeg (vp_nar .byte ((nI z + 1).toInt8.toInt32)) = upd ro (lo k) (nI (z + 1)) := by rw [nI_1, zb_bb hz, nI_clamp (by omega)]
  have e2 : upd (upd ro (lo k) (nI (z + 1))) (nI (hi k)).toNatClampNeg (vp_nar .byte ((nI z + 1).toInt8.toInt32)) = upd (upd ro (lo k) (nI (z + 1))) (hi k) (nI (z + 1)) := by rw [nI_1, zb_bb hz, nI_clamp (by omega)]
  unfold wX_rounds_85
  rw [l1, l2]
  refine ⟨hv, vp_in_nI (by omega) (by omega), nm_r e1 ⟨hv, vp_in_nI (by omega) (by omega), nm_r e2 ?_⟩⟩
  rw [nI_1 z]
  by_cases h : nI (z + 1) ≤ mo
  · rw [if_pos h] at HJ
    exact br_t h (nm_r (nI_1 k) HJ)
  · rw [if_neg h] at HJ
    exact br_f h (nm_e (nm_r (nI_1 k) HJ))
theorem zx_ro27 {post : Int32 → SX → Prop} (I : zx_I n c lo hi al ah) (H : post (zr_m lo hi c) (nI n, nI c, al, ah, gi, wi, be, wh, ch, zx_cp n (zr_g lo hi c) ro, pr)) : ∀ (d k : Nat), k + d = c → wX_rounds_27 post (nI n) (nI c) (d + 1) (zr_m lo hi k) (nI k) al ah gi wi be wh ch (zx_cp n (zr_g lo hi k) ro) pr := by
  have h7 := I.1.2.1
  have hc := I.1.2.2
  intro d
  induction d with
  | zero =>
    intro k hk
    have e : k = c := by omega
    subst e
    exact br_t (nI_le (by omega) (by omega)) H
  | succ d ih =>
    intro k hk
    have h := ih (k + 1) (by omega)
    have b1 := I.2.2.2.1 k
    have b2 := I.2.2.2.2 k
    have hv : vp_in (nI k) 24 := vp_in_nI (by omega) (by omega)
    have l1 : al (nI k).toNatClampNeg = nI (lo k) := by rw [nI_clamp (by omega), I.2.1]
    have l2 : ah (nI k).toNatClampNeg = nI (hi k) := by rw [nI_clamp (by omega), I.2.2.1]
    have v1 : vp_in (nI (lo k)) 7 := vp_in_nI (by omega) (by omega)
    have v2 : vp_in (nI (hi k)) 7 := vp_in_nI (by omega) (by omega)
    have g1 : zx_cp n (zr_g lo hi k) ro (nI (lo k)).toNatClampNeg = zr_g lo hi k (lo k) := by rw [nI_clamp (by omega), zx_cpl b1]
    have g2 : zx_cp n (zr_g lo hi k) ro (nI (hi k)).toNatClampNeg = zr_g lo hi k (hi k) := by rw [nI_clamp (by omega), zx_cpl b2]
    obtain ⟨j1, hj1, ej1⟩ := zr_b lo hi k (lo k)
    obtain ⟨j2, hj2, ej2⟩ := zr_b lo hi k (hi k)
    rw [zr_g, zr_m, ← zx_cpu b2, ← zx_cpu b1] at h
    rw [wX_rounds_27]
    refine br_f (nI_ge (by omega) (by omega)) ?_
    rw [l1, l2, g1, g2]
    refine ⟨hv, v1, hv, v2, ?_⟩
    by_cases hle : zr_g lo hi k (lo k) ≤ zr_g lo hi k (hi k)
    · have es : zr_s (zr_g lo hi k) (lo k) (hi k) = nI (j2 + 1) := by unfold zr_s; rw [if_pos hle, ej2, nI_1]
      rw [es] at h
      refine br_t hle ⟨hv, v2, ?_⟩
      rw [ej2]
      exact zx_ro85 I (by omega) (by omega) h
    · have es : zr_s (zr_g lo hi k) (lo k) (hi k) = nI (j1 + 1) := by unfold zr_s; rw [if_neg hle, ej1, nI_1]
      rw [es] at h
      refine br_f hle ⟨hv, v1, ?_⟩
      rw [ej1]
      exact zx_ro85 I (by omega) (by omega) h
theorem zx_ro4 {post : Int32 → SX → Prop} (I : zx_I n c lo hi al ah) (H : post (zr_m lo hi c) (nI n, nI c, al, ah, gi, wi, be, wh, ch, zx_cp n (zr_g lo hi c) ro, pr)) : ∀ (d i : Nat), i + d = n → wX_rounds_4 post 0 (nI n) (nI c) (d + 1) (nI i) al ah gi wi be wh ch (zx_cp i (fun _ => 0) ro) pr := by
  have h7 := I.1.2.1
  intro d
  induction d with
  | zero =>
    intro i hi'
    have e : i = n := by omega
    subst e
    exact br_t (nI_le (by omega) (by omega)) ⟨_, zx_ro27 I H c 0 (by omega)⟩
  | succ d ih =>
    intro i hi'
    have hv : vp_in (nI i) 7 := vp_in_nI (by omega) (by omega)
    have e : upd (zx_cp i (fun _ => 0) ro) (nI i).toNatClampNeg (vp_nar .byte 0) = zx_cp (i + 1) (fun _ => 0) ro := by
      rw [← zx_cps, nI_clamp (by omega), vp_nar_byte]
      rfl
    exact br_f (nI_ge (by omega) (by omega)) ⟨hv, nm_r e (nm_r (nI_1 i) (ih (i + 1) (by omega)))⟩
theorem zx_rounds {post : Int32 → SX → Prop} (I : zx_I n c lo hi al ah) (H : ∀ ro, post (zr_m lo hi c) (nI n, nI c, al, ah, gi, wi, be, wh, ch, ro, pr)) : wpX_rounds post (nI n, nI c, al, ah, gi, wi, be, wh, ch, ro, pr) := by
  have h := zx_ro4 (gi := gi) (wi := wi) (be := be) (wh := wh) (ch := ch) (ro := ro) (pr := pr) I (H _) n 0 (by omega)
  rw [zx_cp0] at h
  exact ⟨_, h⟩
theorem zx_init113 {post : SX → Prop} {cn : Int32} (H : post (nI n, cn, al, ah, gi, wi, be, wh, ch, ro, zx_cp 8 (fun k => nI (zw_f k)) pr)) : ∀ (d i : Nat), i + 1 + d = 8 → wX_init_113 post (nI n) cn (d + 1) (nI (i + 1)) al ah gi wi be wh ch ro (zx_cp (i + 1) (fun k => nI (zw_f k)) pr) := by
  intro d
  induction d with
  | zero =>
    intro i hi'
    have e : i = 7 := by omega
    subst e
    exact br_t (nI_le (a := 8) (by omega) (by omega)) H
  | succ d ih =>
    intro i hi'
    have h := ih (i + 1) (by omega)
    have hv : vp_in (nI (i + 1)) 8 := vp_in_nI (by omega) (by omega)
    have hv2 : vp_in (nI (i + 1) - 1) 8 := by rw [nI_pred]; exact vp_in_nI (by omega) (by omega)
    have e : upd (zx_cp (i + 1) (fun k => nI (zw_f k)) pr) (nI (i + 1)).toNatClampNeg ((zx_cp (i + 1) (fun k => nI (zw_f k)) pr (nI (i + 1) - 1).toNatClampNeg) * nI (i + 1)) = zx_cp (i + 1 + 1) (fun k => nI (zw_f k)) pr := by
      rw [nI_pred, nI_clamp (by omega), nI_clamp (by omega), zx_cpl (by omega), pk_mul]
      exact zx_cps (i + 1) (fun k => nI (zw_f k)) pr
    exact br_f (nI_ge (b := 8) (by omega) (by omega)) ⟨hv2, hv, nm_r e (nm_r (nI_1 (i + 1)) h)⟩
theorem zx_init101 {post : SX → Prop} {z cn : Int32} (H : post (nI n, cn, al, ah, gi, wi, be, wh, ch, ro, zx_cp 8 (fun k => nI (zw_f k)) pr)) : wX_init_101 post (nI n) z cn al ah gi wi be wh ch ro pr := by
  have e : upd pr 0 1 = zx_cp 1 (fun k => nI (zw_f k)) pr := by
    have h := zx_cps 0 (fun k => nI (zw_f k)) pr
    rw [zx_cp0] at h
    exact h
  exact nm_r e ⟨_, zx_init113 H 7 0 (by omega)⟩
end
theorem zx_init {post : SX → Prop} (n : Nat) (p0 : Int32) (h : (¬ 2 ≤ p0 ∧ n = 2) ∨ (2 ≤ p0 ∧ p0 ≤ 7 ∧ p0 = nI n) ∨ (2 ≤ p0 ∧ ¬ p0 ≤ 7 ∧ n = 7)) (H : post (nI n, 0, (fun _ => 0), (fun _ => 0), (fun _ => 0), (fun _ => 0), (fun _ => 0), (fun _ => 0), (fun _ => 0), (fun _ => 0), zx_cp 8 (fun k => nI (zw_f k)) (fun _ => 0))) : wpX_init post p0 := by
  rcases h with ⟨h1, rfl⟩ | ⟨h1, h2, rfl⟩ | ⟨h1, h2, rfl⟩
  · exact br_f h1 (zx_init101 (n := 2) H)
  · exact br_t h1 (br_t h2 (zx_init101 H))
  · exact br_t h1 (br_f h2 (zx_init101 (n := 7) H))
end
section
/-! the reference's small methods -/
section
variable {n c : Nat} {lo hi : Nat → Nat} {al ah gi od ws os la : Nat → Int32}
theorem zy_bad1 {post : Int32 → Prop} {v : Int32} (h : v < 0 ∨ nI n ≤ v) (H : post 1) : wpY_noWire post (nI n, nI c, al, ah, gi, od, ws, os, la) v := by
  by_cases h0 : v < 0
  · exact br_t h0 H
  · exact br_f h0 (br_f (Int32.not_lt.mpr (h.resolve_left h0)) H)
theorem zy_bad0 {post : Int32 → Prop} (h7 : n ≤ 7) {j : Nat} (hj : j < n) (H : post 0) : wpY_noWire post (nI n, nI c, al, ah, gi, od, ws, os, la) (nI j) := br_f (nI_pos (by omega)) (br_t (nI_lt hj (by omega)) H)
theorem zy_add1 {post : Int32 → SY → Prop} {v w : Int32} (h : v < 0 ∨ nI n ≤ v) (H : post (-1) (nI n, nI c, al, ah, gi, od, ws, os, la)) : wpY_add post (nI n, nI c, al, ah, gi, od, ws, os, la) v w := by
  unfold wpY_add
  dsimp only
  exact zy_bad1 h (br_f (by decide) H)
theorem zy_add2 {post : Int32 → SY → Prop} (h7 : n ≤ 7) {i : Nat} {w : Int32} (hi' : i < n) (h : w < 0 ∨ nI n ≤ w) (H : post (-1) (nI n, nI c, al, ah, gi, od, ws, os, la)) : wpY_add post (nI n, nI c, al, ah, gi, od, ws, os, la) (nI i) w := by
  unfold wpY_add
  dsimp only
  exact zy_bad0 h7 hi' (br_t rfl (zy_bad1 h (br_f (by decide) H)))
theorem zy_add3 {post : Int32 → SY → Prop} (h7 : n ≤ 7) {i : Nat} (hi' : i < n) (H : post (-1) (nI n, nI c, al, ah, gi, od, ws, os, la)) : wpY_add post (nI n, nI c, al, ah, gi, od, ws, os, la) (nI i) (nI i) := by
  unfold wpY_add
  dsimp only
  exact zy_bad0 h7 hi' (br_t rfl (zy_bad0 h7 hi' (br_t rfl (br_t rfl H))))
theorem zy_add4 {post : Int32 → SY → Prop} (h7 : n ≤ 7) {i j : Nat} (hi' : i < n) (hj' : j < n) (hne : i ≠ j) (H : post (-2) (nI n, nI 24, al, ah, gi, od, ws, os, la)) : wpY_add post (nI n, nI 24, al, ah, gi, od, ws, os, la) (nI i) (nI j) := by
  have h1 : ¬ nI i = nI j := fun q => hne ((nI_eq (by omega) (by omega)).mp q)
  unfold wpY_add
  dsimp only
  exact zy_bad0 h7 hi' (br_t rfl (zy_bad0 h7 hj' (br_t rfl (br_f h1 (br_t rfl H)))))
theorem zy_add5 {post : Int32 → SY → Prop} (h7 : n ≤ 7) {i j : Nat} (hi' : i < n) (hj' : j < n) (hne : i ≠ j) (hc : c < 24) (H : post (nI (c + 1)) (nI n, nI (c + 1), upd al c (nI i), upd ah c (nI j), gi, od, ws, os, la)) : wpY_add post (nI n, nI c, al, ah, gi, od, ws, os, la) (nI i) (nI j) := by
  have h1 : ¬ nI i = nI j := fun q => hne ((nI_eq (by omega) (by omega)).mp q)
  have h2 : ¬ nI c = 24 := fun q => by
    have := (nI_eq (a := c) (b := 24) (by omega) (by omega)).mp q
    omega
  have e1 : upd al (nI c).toNatClampNeg (nI i) = upd al c (nI i) := by rw [nI_clamp (by omega)]
  have e2 : upd ah (nI c).toNatClampNeg (nI j) = upd ah c (nI j) := by rw [nI_clamp (by omega)]
  have hv : vp_in (nI c) 24 := vp_in_nI hc (by omega)
  unfold wpY_add
  dsimp only
  exact zy_bad0 h7 hi' (br_t rfl (zy_bad0 h7 hj' (br_t rfl (br_f h1 (br_f h2 ⟨hv, nm_r e1 ⟨hv, nm_r e2 (nm_r (nI_1 c) H)⟩⟩)))))
theorem zy_is0 {post : Int32 → Prop} {v : Int32} (h : v < 0 ∨ nI c ≤ v) (H : post 0) : wpY_is post (nI n, nI c, al, ah, gi, od, ws, os, la) v := by
  by_cases h0 : v < 0
  · exact br_t h0 H
  · exact br_f h0 (br_t (h.resolve_left h0) H)
theorem zy_is1 {post : Int32 → Prop} (hc : c ≤ 24) {k : Nat} (hk : k < c) (H : post 1) : wpY_is post (nI n, nI c, al, ah, gi, od, ws, os, la) (nI k) := br_f (nI_pos (by omega)) (br_f (nI_ge hk (by omega)) H)
theorem zy_drop23 {post : Int32 → SY → Prop} (hc : c ≤ 23) : ∀ (d i : Nat) (al ah : Nat → Int32), i + d = c → post (nI c) (nI n, nI c, zx_dr d i al, zx_dr d i ah, gi, od, ws, os, la) → wY_drop_23 post (nI n) (nI c) (d + 1) (nI i) al ah gi od ws os la := by
  intro d
  induction d with
  | zero =>
    intro i al ah hi' H
    exact br_t (nI_le (by omega) (by omega)) H
  | succ d ih =>
    intro i al ah hi' H
    have hv : vp_in (nI i) 24 := vp_in_nI (by omega) (by omega)
    have hv1 : vp_in (nI i + 1) 24 := pk_in (i + 1) 24 (by omega) (nI_1 i)
    have e1 : upd al (nI i).toNatClampNeg (al (nI i + 1).toNatClampNeg) = upd al i (al (i + 1)) := by
      rw [nI_1, nI_clamp (by omega), nI_clamp (by omega)]
    have e2 : upd ah (nI i).toNatClampNeg (ah (nI i + 1).toNatClampNeg) = upd ah i (ah (i + 1)) := by
      rw [nI_1, nI_clamp (by omega), nI_clamp (by omega)]
    exact br_f (nI_ge (by omega) (by omega)) ⟨hv1, hv, nm_r e1 ⟨hv1, hv, nm_r e2 (nm_r (nI_1 i) (ih (i + 1) _ _ (by omega) H))⟩⟩
theorem zy_drop1 {post : Int32 → SY → Prop} (hc : c ≤ 24) {k : Nat} (hk : k < c) (H : post (nI (c - 1)) (nI n, nI (c - 1), zx_dr (c - 1 - k) k al, zx_dr (c - 1 - k) k ah, gi, od, ws, os, la)) : wpY_drop post (nI n, nI c, al, ah, gi, od, ws, os, la) (nI k) := by
  have e : nI c - 1 = nI (c - 1) := by
    obtain ⟨m, rfl⟩ : ∃ m, c = m + 1 := ⟨c - 1, by omega⟩
    rw [nI_pred]
    rfl
  unfold wpY_drop
  dsimp only
  exact zy_is1 hc hk (br_f (by decide) (nm_r e ⟨_, zy_drop23 (by omega) (c - 1 - k) k al ah (by omega) H⟩))
theorem zy_drop0 {post : Int32 → SY → Prop} {v : Int32} (h : v < 0 ∨ nI c ≤ v) (H : post (-4) (nI n, nI c, al, ah, gi, od, ws, os, la)) : wpY_drop post (nI n, nI c, al, ah, gi, od, ws, os, la) v := by
  unfold wpY_drop
  dsimp only
  exact zy_is0 h (br_t rfl H)
theorem zy_swap0 {post : Int32 → SY → Prop} {v : Int32} (h : v < 0 ∨ ¬ v < nI c - 1) (H : post (-4) (nI n, nI c, al, ah, gi, od, ws, os, la)) : wpY_swap post (nI n, nI c, al, ah, gi, od, ws, os, la) v := by
  by_cases h0 : v < 0
  · exact br_t h0 H
  · exact br_f h0 (br_f (h.resolve_left h0) H)
theorem zy_swap1 {post : Int32 → SY → Prop} (hc : c ≤ 24) {k : Nat} (hk : k + 1 < c) (hlt : nI k < nI c - 1) (H : post 0 (nI n, nI c, upd (upd al k (al (k + 1))) (k + 1) (al k), upd (upd ah k (ah (k + 1))) (k + 1) (ah k), gi, od, ws, os, la)) : wpY_swap post (nI n, nI c, al, ah, gi, od, ws, os, la) (nI k) := by
  have hv : vp_in (nI k) 24 := vp_in_nI (by omega) (by omega)
  have hv1 : vp_in (nI k + 1) 24 := pk_in (k + 1) 24 (by omega) (nI_1 k)
  have c0 : (nI k).toNatClampNeg = k := nI_clamp (by omega)
  have c1 : (nI k + 1).toNatClampNeg = k + 1 := by rw [nI_1, nI_clamp (by omega)]
  have e1 : upd al (nI k).toNatClampNeg (al (nI k + 1).toNatClampNeg) = upd al k (al (k + 1)) := by rw [c0, c1]
  have e2 : upd ah (nI k).toNatClampNeg (ah (nI k + 1).toNatClampNeg) = upd ah k (ah (k + 1)) := by rw [c0, c1]
  have e3 : upd (upd al k (al (k + 1))) (nI k + 1).toNatClampNeg (al k) = upd (upd al k (al (k + 1))) (k + 1) (al k) := by rw [c1]
  have e4 : upd (upd ah k (ah (k + 1))) (nI k + 1).toNatClampNeg (ah k) = upd (upd ah k (ah (k + 1))) (k + 1) (ah k) := by rw [c1]
  exact br_f (nI_pos (by omega)) (br_t hlt ⟨hv, nm_r (congrArg al c0) ⟨hv, nm_r (congrArg ah c0) ⟨hv1, hv, nm_r e1 ⟨hv1, hv, nm_r e2 ⟨hv1, nm_r e3 ⟨hv1, nm_r e4 H⟩⟩⟩⟩⟩⟩)
theorem zy_turn2 {post : Int32 → SY → Prop} (hc : c ≤ 24) (H : post (nI c) (nI n, nI c, zx_cp c (fun k => (nI n - 1) - ah k) al, zx_cp c (fun k => (nI n - 1) - al k) ah, gi, od, ws, os, la)) : ∀ (d i : Nat), i + d = c → wY_turn_2 post (nI n) (nI c) (d + 1) (nI i) (zx_cp i (fun k => (nI n - 1) - ah k) al) (zx_cp i (fun k => (nI n - 1) - al k) ah) gi od ws os la := by
  intro d
  induction d with
  | zero =>
    intro i hi'
    have e : i = c := by omega
    subst e
    exact br_t (nI_le (by omega) (by omega)) H
  | succ d ih =>
    intro i hi'
    have hv : vp_in (nI i) 24 := vp_in_nI (by omega) (by omega)
    have c0 : (nI i).toNatClampNeg = i := nI_clamp (by omega)
    have f1 : (zx_cp i (fun k => (nI n - 1) - ah k) al) (nI i).toNatClampNeg = al i := by rw [c0, zx_cpg (by omega)]
    have e1 : upd (zx_cp i (fun k => (nI n - 1) - ah k) al) (nI i).toNatClampNeg ((nI n - 1) - ((zx_cp i (fun k => (nI n - 1) - al k) ah) (nI i).toNatClampNeg)) = zx_cp (i + 1) (fun k => (nI n - 1) - ah k) al := by
      rw [c0, zx_cpg (by omega)]
      exact zx_cps i _ _
    have e2 : upd (zx_cp i (fun k => (nI n - 1) - al k) ah) (nI i).toNatClampNeg ((nI n - 1) - al i) = zx_cp (i + 1) (fun k => (nI n - 1) - al k) ah := by
      rw [c0]
      exact zx_cps i _ _
    exact br_f (nI_ge (by omega) (by omega)) ⟨hv, nm_r f1 ⟨hv, hv, nm_r e1 ⟨hv, nm_r e2 (nm_r (nI_1 i) (ih (i + 1) (by omega)))⟩⟩⟩
theorem zy_turn {post : Int32 → SY → Prop} (hc : c ≤ 24) (H : post (nI c) (nI n, nI c, zx_cp c (fun k => (nI n - 1) - ah k) al, zx_cp c (fun k => (nI n - 1) - al k) ah, gi, od, ws, os, la)) : wpY_turn post (nI n, nI c, al, ah, gi, od, ws, os, la) := by
  have h := zy_turn2 hc H c 0 (by omega)
  rw [zx_cp0, zx_cp0] at h
  exact ⟨_, h⟩
theorem zy_input1 {post : Int32 → SY → Prop} {v w : Int32} (h : v < 0 ∨ nI n ≤ v) (H : post (-1) (nI n, nI c, al, ah, gi, od, ws, os, la)) : wpY_input post (nI n, nI c, al, ah, gi, od, ws, os, la) v w := by
  unfold wpY_input
  dsimp only
  exact zy_bad1 h (br_f (by decide) H)
theorem zy_input0 {post : Int32 → SY → Prop} (h7 : n ≤ 7) {i : Nat} {w : Int32} (hi' : i < n) (H : post 0 (nI n, nI c, al, ah, upd gi i w, od, ws, os, la)) : wpY_input post (nI n, nI c, al, ah, gi, od, ws, os, la) (nI i) w := by
  have e : upd gi (nI i).toNatClampNeg w = upd gi i w := by rw [nI_clamp (by omega)]
  unfold wpY_input
  dsimp only
  exact zy_bad0 h7 hi' (br_t rfl ⟨vp_in_nI (by omega) (by omega), nm_r e H⟩)
theorem zy_cmp {post : Int32 → SY → Prop} (I : zx_I n c lo hi al ah) {k : Nat} (hk : k < 24) (H : post (zx_b (decide (ws (hi k) < ws (lo k)))) (nI n, nI c, al, ah, gi, od, zp_cp ws (lo k) (hi k), os, la)) : wpY_compare post (nI n, nI c, al, ah, gi, od, ws, os, la) (nI k) := by
  obtain ⟨⟨h2, h7, hc⟩, hl, hh, bl, bh⟩ := I
  have b1 := bl k
  have b2 := bh k
  have hv : vp_in (nI k) 24 := vp_in_nI hk (by omega)
  have l1 : al (nI k).toNatClampNeg = nI (lo k) := by rw [nI_clamp (by omega), hl]
  have l2 : ah (nI k).toNatClampNeg = nI (hi k) := by rw [nI_clamp (by omega), hh]
  have v1 : vp_in (nI (lo k)) 7 := vp_in_nI (by omega) (by omega)
  have v2 : vp_in (nI (hi k)) 7 := vp_in_nI (by omega) (by omega)
  have c1 : (nI (lo k)).toNatClampNeg = lo k := nI_clamp (by omega)
  have c2 : (nI (hi k)).toNatClampNeg = hi k := nI_clamp (by omega)
  unfold wpY_compare
  dsimp only
  refine ⟨hv, nm_r l1 ⟨hv, nm_r l2 ⟨v1, v2, ?_⟩⟩⟩
  rw [c1, c2]
  by_cases h : ws (hi k) < ws (lo k)
  · rw [zp_cp, if_pos h, decide_eq_true h] at H
    exact br_t h ⟨v1, nm_e ⟨v2, v1, nm_e ⟨v2, nm_e H⟩⟩⟩
  · rw [zp_cp, if_neg h, decide_eq_false h] at H
    exact br_f h H
theorem zy_out40 {post : Int32 → SY → Prop} (I : zx_I n c lo hi al ah) (f : Nat → Int32) {i : Nat} (hi' : i < n) (H : post (zp_ps lo hi zp_no c f i) (nI n, nI c, al, ah, gi, od, zp_ps lo hi zp_no c f, os, la)) : ∀ (d k : Nat), k + d = c → wY_output_40 post (nI i) (d + 1) (nI k) (nI n) (nI c) al ah gi od (zp_ps lo hi zp_no k f) os la := by
  have h7 := I.1.2.1
  have hc := I.1.2.2
  intro d
  induction d with
  | zero =>
    intro k hk
    have e : k = c := by omega
    subst e
    refine br_t (nI_le (by omega) (by omega)) ⟨vp_in_nI (by omega) (by omega), ?_⟩
    rw [nI_clamp (by omega)]
    exact H
  | succ d ih =>
    intro k hk
    have h := ih (k + 1) (by omega)
    rw [zp_psn] at h
    refine br_f (nI_ge (by omega) (by omega)) (zy_cmp I (by omega) ?_)
    dsimp only
    exact nm_r (nI_1 k) h
theorem zy_out12 {post : Int32 → SY → Prop} (I : zx_I n c lo hi al ah) {j : Nat} (hj : j < n) (H : post (zp_ps lo hi zp_no c (zx_cp n gi ws) j) (nI n, nI c, al, ah, gi, od, zp_ps lo hi zp_no c (zx_cp n gi ws), os, la)) : ∀ (d i : Nat), i + d = n → wY_output_12 post (nI j) (nI n) (nI c) (d + 1) (nI i) al ah gi od (zx_cp i gi ws) os la := by
  have h7 := I.1.2.1
  intro d
  induction d with
  | zero =>
    intro i hi'
    have e : i = n := by omega
    subst e
    exact br_t (nI_le (by omega) (by omega)) ⟨_, zy_out40 I (zx_cp i gi ws) hj H c 0 (by omega)⟩
  | succ d ih =>
    intro i hi'
    have hv : vp_in (nI i) 7 := vp_in_nI (by omega) (by omega)
    have e : upd (zx_cp i gi ws) (nI i).toNatClampNeg (gi (nI i).toNatClampNeg) = zx_cp (i + 1) gi ws := by
      rw [nI_clamp (by omega), zx_cps]
    exact br_f (nI_ge (by omega) (by omega)) ⟨hv, hv, nm_r e (nm_r (nI_1 i) (ih (i + 1) (by omega)))⟩
theorem zy_output1 {post : Int32 → SY → Prop} {v : Int32} (h : v < 0 ∨ nI n ≤ v) (H : post 0 (nI n, nI c, al, ah, gi, od, ws, os, la)) : wpY_output post (nI n, nI c, al, ah, gi, od, ws, os, la) v := by
  unfold wpY_output
  dsimp only
  exact zy_bad1 h (br_f (by decide) H)
theorem zy_output0 {post : Int32 → SY → Prop} (I : zx_I n c lo hi al ah) {j : Nat} (hj : j < n) (H : post (zp_ps lo hi zp_no c (zx_cp n gi ws) j) (nI n, nI c, al, ah, gi, od, zp_ps lo hi zp_no c (zx_cp n gi ws), os, la)) : wpY_output post (nI n, nI c, al, ah, gi, od, ws, os, la) (nI j) := by
  have h7 := I.1.2.1
  have h := zy_out12 I hj H n 0 (by omega)
  rw [zx_cp0] at h
  unfold wpY_output
  dsimp only
  exact zy_bad0 h7 hj (br_t rfl ⟨_, h⟩)
theorem zy_ex32 {post : Int32 → SY → Prop} (I : zx_I n c lo hi al ah) (f : Nat → Int32) (H : post (nI (zp_mv lo hi c f)) (nI n, nI c, al, ah, gi, od, zp_ps lo hi zp_no c f, os, la)) : ∀ (d k : Nat), k + d = c → wY_exchanges_32 post (d + 1) (nI (zp_mv lo hi k f)) (nI k) (nI n) (nI c) al ah gi od (zp_ps lo hi zp_no k f) os la := by
  have hc := I.1.2.2
  intro d
  induction d with
  | zero =>
    intro k hk
    have e : k = c := by omega
    subst e
    exact br_t (nI_le (by omega) (by omega)) H
  | succ d ih =>
    intro k hk
    have h := ih (k + 1) (by omega)
    rw [zp_psn, zp_mv] at h
    refine br_f (nI_ge (by omega) (by omega)) (zy_cmp I (by omega) ?_)
    dsimp only
    by_cases hlt : zp_ps lo hi zp_no k f (hi k) < zp_ps lo hi zp_no k f (lo k)
    · rw [if_pos hlt] at h
      rw [decide_eq_true hlt]
      exact br_f (by decide) (nm_r (nI_1 _) (nm_r (nI_1 k) h))
    · rw [if_neg hlt, Nat.add_zero] at h
      rw [decide_eq_false hlt]
      exact br_t rfl (nm_r (nI_1 k) h)
theorem zy_ex2 {post : Int32 → SY → Prop} (I : zx_I n c lo hi al ah) (H : post (nI (zp_mv lo hi c (zx_cp n gi ws))) (nI n, nI c, al, ah, gi, od, zp_ps lo hi zp_no c (zx_cp n gi ws), os, la)) : ∀ (d i : Nat), i + d = n → wY_exchanges_2 post (nI n) (nI c) (d + 1) (nI i) al ah gi od (zx_cp i gi ws) os la := by
  have h7 := I.1.2.1
  intro d
  induction d with
  | zero =>
    intro i hi'
    have e : i = n := by omega
    subst e
    exact br_t (nI_le (by omega) (by omega)) ⟨_, zy_ex32 I (zx_cp i gi ws) H c 0 (by omega)⟩
  | succ d ih =>
    intro i hi'
    have hv : vp_in (nI i) 7 := vp_in_nI (by omega) (by omega)
    have e : upd (zx_cp i gi ws) (nI i).toNatClampNeg (gi (nI i).toNatClampNeg) = zx_cp (i + 1) gi ws := by
      rw [nI_clamp (by omega), zx_cps]
    exact br_f (nI_ge (by omega) (by omega)) ⟨hv, hv, nm_r e (nm_r (nI_1 i) (ih (i + 1) (by omega)))⟩
theorem zy_exchanges {post : Int32 → SY → Prop} (I : zx_I n c lo hi al ah) (H : post (nI (zp_mv lo hi c (zx_cp n gi ws))) (nI n, nI c, al, ah, gi, od, zp_ps lo hi zp_no c (zx_cp n gi ws), os, la)) : wpY_exchanges post (nI n, nI c, al, ah, gi, od, ws, os, la) := by
  have h := zy_ex2 I H n 0 (by omega)
  rw [zx_cp0] at h
  exact ⟨_, h⟩
theorem zy_ro86 {post : Int32 → SY → Prop} {J : Int32 → Int32 → (Nat → Int32) → (Nat → Int32) → (Nat → Int32) → (Nat → Int32) → (Nat → Int32) → (Nat → Int32) → (Nat → Int32) → Prop} {k i j : Nat} (hi' : i < 7) (hj' : j < 7) {mo z : Int32} (HJ : J (if z ≤ mo then mo else z) (nI (k + 1)) al ah gi od ws os (upd (upd la i z) j z)) : wY_rounds_86 post J mo (nI k) (nI i) (nI j) z (nI n) (nI c) al ah gi od ws os la := by
  have e1 : upd la (nI i).toNatClampNeg z = upd la i z := by rw [nI_clamp (by omega)]
  have e2 : upd (upd la i z) (nI j).toNatClampNeg z = upd (upd la i z) j z := by rw [nI_clamp (by omega)]
  unfold wY_rounds_86
  refine ⟨vp_in_nI hi' (by omega), nm_r e1 ⟨vp_in_nI hj' (by omega), nm_r e2 ?_⟩⟩
  by_cases h : z ≤ mo
  · rw [if_pos h] at HJ
    exact br_t h (nm_r (nI_1 k) HJ)
  · rw [if_neg h] at HJ
    exact br_f h (nm_r (nI_1 k) HJ)
theorem zy_ro27 {post : Int32 → SY → Prop} (I : zx_I n c lo hi al ah) (H : post (zr_m lo hi c) (nI n, nI c, al, ah, gi, od, ws, os, zx_cp n (zr_g lo hi c) la)) : ∀ (d k : Nat), k + d = c → wY_rounds_27 post (nI n) (nI c) (d + 1) (zr_m lo hi k) (nI k) al ah gi od ws os (zx_cp n (zr_g lo hi k) la) := by
  have h7 := I.1.2.1
  have hc := I.1.2.2
  intro d
  induction d with
  | zero =>
    intro k hk
    have e : k = c := by omega
    subst e
    exact br_t (nI_le (by omega) (by omega)) H
  | succ d ih =>
    intro k hk
    have h := ih (k + 1) (by omega)
    have b1 := I.2.2.2.1 k
    have b2 := I.2.2.2.2 k
    have hv : vp_in (nI k) 24 := vp_in_nI (by omega) (by omega)
    have l1 : al (nI k).toNatClampNeg = nI (lo k) := by rw [nI_clamp (by omega), I.2.1]
    have l2 : ah (nI k).toNatClampNeg = nI (hi k) := by rw [nI_clamp (by omega), I.2.2.1]
    have v1 : vp_in (nI (lo k)) 7 := vp_in_nI (by omega) (by omega)
    have v2 : vp_in (nI (hi k)) 7 := vp_in_nI (by omega) (by omega)
    have g1 : zx_cp n (zr_g lo hi k) la (nI (lo k)).toNatClampNeg = zr_g lo hi k (lo k) := by rw [nI_clamp (by omega), zx_cpl b1]
    have g2 : zx_cp n (zr_g lo hi k) la (nI (hi k)).toNatClampNeg = zr_g lo hi k (hi k) := by rw [nI_clamp (by omega), zx_cpl b2]
    rw [zr_g, zr_m, ← zx_cpu b2, ← zx_cpu b1] at h
    rw [wY_rounds_27]
    refine br_f (nI_ge (by omega) (by omega)) ⟨hv, nm_r l1 ⟨hv, nm_r l2 ⟨v1, v2, ?_⟩⟩⟩
    rw [g1, g2]
    by_cases hle : zr_g lo hi k (lo k) ≤ zr_g lo hi k (hi k)
    · have es : zr_s (zr_g lo hi k) (lo k) (hi k) = zr_g lo hi k (hi k) + 1 := by unfold zr_s; rw [if_pos hle]
      rw [es] at h
      exact br_t hle ⟨v2, zy_ro86 (by omega) (by omega) h⟩
    · have es : zr_s (zr_g lo hi k) (lo k) (hi k) = zr_g lo hi k (lo k) + 1 := by unfold zr_s; rw [if_neg hle]
      rw [es] at h
      exact br_f hle ⟨v1, zy_ro86 (by omega) (by omega) h⟩
theorem zy_ro2 {post : Int32 → SY → Prop} (I : zx_I n c lo hi al ah) (H : post (zr_m lo hi c) (nI n, nI c, al, ah, gi, od, ws, os, zx_cp n (zr_g lo hi c) la)) : ∀ (d i : Nat), i + d = n → wY_rounds_2 post (nI n) (nI c) (d + 1) (nI i) al ah gi od ws os (zx_cp i (fun _ => 0) la) := by
  have h7 := I.1.2.1
  intro d
  induction d with
  | zero =>
    intro i hi'
    have e : i = n := by omega
    subst e
    exact br_t (nI_le (by omega) (by omega)) ⟨_, zy_ro27 I H c 0 (by omega)⟩
  | succ d ih =>
    intro i hi'
    have hv : vp_in (nI i) 7 := vp_in_nI (by omega) (by omega)
    have e : upd (zx_cp i (fun _ => 0) la) (nI i).toNatClampNeg 0 = zx_cp (i + 1) (fun _ => 0) la := by
      rw [← zx_cps, nI_clamp (by omega)]
    exact br_f (nI_ge (by omega) (by omega)) ⟨hv, nm_r e (nm_r (nI_1 i) (ih (i + 1) (by omega)))⟩
theorem zy_rounds {post : Int32 → SY → Prop} (I : zx_I n c lo hi al ah) (H : ∀ la, post (zr_m lo hi c) (nI n, nI c, al, ah, gi, od, ws, os, la)) : wpY_rounds post (nI n, nI c, al, ah, gi, od, ws, os, la) := by
  have h := zy_ro2 (gi := gi) (od := od) (ws := ws) (os := os) (la := la) I (H _) n 0 (by omega)
  rw [zx_cp0] at h
  exact ⟨_, h⟩
end
end
section
/-! the reference: the next order -/
def zy_RO (n : Nat) (p : List Nat) (od : Nat → Int32) : Prop := p.length = n ∧ ∀ x, x < n → od x = nI (zn_F p x)
def zy_nx (n : Nat) (p : List Nat) (od : Nat → Int32) (P : Int32 → (Nat → Int32) → Prop) : Prop := (zn_P n p = none → P 0 od) ∧ (∀ q od', zn_P n p = some q → zy_RO n q od' → P 1 od')
theorem zn_setD (p : List Nat) (i : Nat) (v : Nat) (x : Nat) (hi : i < p.length) : (p.set i v).getD x 0 = if x = i then v else p.getD x 0 := by
  rw [List.getD_eq_getElem?_getD, List.getElem?_set, List.getD_eq_getElem?_getD]
  by_cases h : i = x
  · rw [if_pos h, if_pos hi, if_pos h.symm]
    rfl
  · rw [if_neg h, if_neg (fun q => h q.symm)]
theorem zy_ROs {n : Nat} {p : List Nat} {od : Nat → Int32} (h : zy_RO n p od) {i j : Nat} (hi : i < n) (hj : j < n) : zy_RO n (zn_sw p i j) (upd (upd od i (od j)) j (od i)) := by
  obtain ⟨hl, ho⟩ := h
  unfold zn_sw
  refine ⟨by rw [List.length_set, List.length_set, hl], ?_⟩
  intro x hx
  unfold zn_F
  rw [zn_setD _ _ _ _ (by rw [List.length_set, hl]; exact hj), zn_setD _ _ _ _ (by rw [hl]; exact hi)]
  by_cases h1 : x = j
  · rw [h1, pk_us, if_pos rfl, ho i hi]
    rfl
  · rw [pk_un h1, if_neg h1]
    by_cases h2 : x = i
    · rw [h2, pk_us, if_pos rfl, ho j hj]
      rfl
    · rw [pk_un h2, if_neg h2, ho x hx]
      rfl
theorem zn_at_f (p : List Nat) : ∀ a t, zn_at p a = t + 1 → p.getD t 0 ≤ p.getD (t + 1) 0 ∧ t + 1 ≤ a
  | 0, t, h => absurd h (by rw [zn_at]; omega)
  | a + 1, t, h => by
    rw [zn_at] at h
    cases hb : Nat.ble (p.getD a 0) (p.getD (a + 1) 0) with
    | true =>
      rw [hb, cond_true] at h
      have e : a = t := by omega
      subst e
      exact ⟨Nat.le_of_ble_eq_true hb, by omega⟩
    | false =>
      rw [hb, cond_false] at h
      have ih := zn_at_f p a t h
      exact ⟨ih.1, by omega⟩
theorem zn_ble {a b : Nat} (h : ¬ a ≤ b) : Nat.ble a b = false := by
  cases hb : Nat.ble a b with
  | true => exact absurd (Nat.le_of_ble_eq_true hb) h
  | false => rfl
def zy_x : Nat → Int32
  | 0 => -1
  | a + 1 => nI a
theorem zy_xm : ∀ a, nI a + (-1) = zy_x a
  | 0 => by decide
  | a + 1 => pk_m1 a
section
variable {n c : Nat} {lo hi : Nat → Nat} {al ah gi od ws os la : Nat → Int32}
theorem zy_nx97 {post : Int32 → SY → Prop} (h7 : n ≤ 7) {t : Nat} : ∀ (f x : Nat) (q : List Nat) (od : Nat → Int32), f + x = n + 1 → 1 ≤ x → x ≤ n → t + 1 < n → zy_RO n q od → (∀ od', zy_RO n (zn_rv n t f x q) od' → post 1 (nI n, nI c, al, ah, gi, od', ws, os, la)) → wY_nextOrder_97 post (nI t) (nI n) (nI c) f (nI x) al ah gi od ws os la := by
  intro f
  induction f with
  | zero =>
    intro x q od hf h1 hx
    exact absurd hf (by omega)
  | succ f ih =>
    intro x q od hf h1 hx ht hr H
    have e1 : nI n - nI x = nI (n - x) := pk_sub hx
    have e2 : nI t + nI x = nI (t + x) := nI_add t x
    rw [zn_rv] at H
    rw [wY_nextOrder_97]
    dsimp only
    rw [e1, e2]
    by_cases h : n - x ≤ t + x
    · rw [Nat.ble_eq_true_of_le h, cond_true] at H
      exact br_t (nI_le h (by omega)) (H od hr)
    · rw [zn_ble h, cond_false] at H
      have v1 : vp_in (nI (t + x)) 7 := vp_in_nI (by omega) (by omega)
      have v2 : vp_in (nI (n - x)) 7 := vp_in_nI (by omega) (by omega)
      have c1 : (nI (t + x)).toNatClampNeg = t + x := nI_clamp (by omega)
      have c2 : (nI (n - x)).toNatClampNeg = n - x := nI_clamp (by omega)
      have g1 : upd od (nI (t + x)).toNatClampNeg (od (nI (n - x)).toNatClampNeg) = upd od (t + x) (od (n - x)) := by rw [c1, c2]
      have g2 : upd (upd od (t + x) (od (n - x))) (nI (n - x)).toNatClampNeg (od (t + x)) = upd (upd od (t + x) (od (n - x))) (n - x) (od (t + x)) := by rw [c2]
      exact br_f (nI_ge (by omega) (by omega)) ⟨v1, nm_r (congrArg od c1) ⟨v2, v1, nm_r g1 ⟨v2, nm_r g2 (nm_r (nI_1 x) (ih (x + 1) _ _ (by omega) (by omega) (by omega) ht (zy_ROs hr (by omega) (by omega)) H))⟩⟩⟩
theorem zy_nx47 {post : Int32 → SY → Prop} (h7 : n ≤ 7) {p : List Nat} (hr : zy_RO n p od) (hb : ∀ x, x < n → zn_F p x < 2 ^ 31) {t : Nat} (ht : t + 1 < n) (hle : p.getD t 0 ≤ p.getD (t + 1) 0) : ∀ b, t < b → b < n → (∀ od', zy_RO n (zn_rv n t n 1 (zn_sw p t (zn_to p (p.getD t 0) b))) od' → post 1 (nI n, nI c, al, ah, gi, od', ws, os, la)) → wY_nextOrder_47 post (nI t) (nI n) (nI c) al ah gi od ws os la (b + 1) (nI b) := by
  intro b
  induction b with
  | zero =>
    intro h
    exact absurd h (by omega)
  | succ b ih =>
    intro hbt hbn H
    have v1 : vp_in (nI t) 7 := vp_in_nI (by omega) (by omega)
    have v2 : vp_in (nI (b + 1)) 7 := vp_in_nI (by omega) (by omega)
    have c1 : (nI t).toNatClampNeg = t := nI_clamp (by omega)
    have c2 : (nI (b + 1)).toNatClampNeg = b + 1 := nI_clamp (by omega)
    have o1 := hr.2 t (by omega)
    have o2 := hr.2 (b + 1) hbn
    have i1 := hb t (by omega)
    have i2 := hb (b + 1) hbn
    unfold zn_F at o1 o2 i1 i2
    rw [zn_to] at H
    rw [wY_nextOrder_47]
    refine ⟨v2, v1, ?_⟩
    rw [c1, c2]
    by_cases h : p.getD t 0 ≤ p.getD (b + 1) 0
    · rw [Nat.ble_eq_true_of_le h, cond_true] at H
      have hx : od t ≤ od (b + 1) := by rw [o1, o2]; exact nI_le h i2
      exact br_t hx ⟨v1, nm_e ⟨v2, v1, nm_e ⟨v2, nm_e ⟨n, zy_nx97 h7 n 1 _ _ (by omega) (by omega) (by omega) ht (zy_ROs hr (by omega) hbn) H⟩⟩⟩⟩
    · rw [zn_ble h, cond_false] at H
      have hne : b ≠ t := fun q => h (by rw [q]; exact hle)
      have hx : ¬ od t ≤ od (b + 1) := by rw [o1, o2]; exact nI_ge (by omega) i1
      exact br_f hx (nm_r (pk_m1 b) (ih (by omega) (by omega) H))
theorem zy_nx7 {post : Int32 → SY → Prop} (h7 : n ≤ 7) {p : List Nat} (hr : zy_RO n p od) (hb : ∀ x, x < n → zn_F p x < 2 ^ 31) : ∀ a, a < n → (zn_at p a = 0 → wY_nextOrder_34 post (-1) (nI n) (nI c) al ah gi od ws os la) → (∀ t, zn_at p a = t + 1 → wY_nextOrder_34 post (nI t) (nI n) (nI c) al ah gi od ws os la) → wY_nextOrder_7 post (nI n) (nI c) al ah gi od ws os la (a + 1) (zy_x a) := by
  intro a
  induction a with
  | zero =>
    intro _ H0 _
    exact br_t (by decide) (H0 rfl)
  | succ a ih =>
    intro ha H0 H1
    have v1 : vp_in (nI a) 7 := vp_in_nI (by omega) (by omega)
    have v2 : vp_in (nI a + 1) 7 := pk_in (a + 1) 7 (by omega) (nI_1 a)
    have c1 : (nI a).toNatClampNeg = a := nI_clamp (by omega)
    have c2 : (nI a + 1).toNatClampNeg = a + 1 := by rw [nI_1, nI_clamp (by omega)]
    have o1 := hr.2 a (by omega)
    have o2 := hr.2 (a + 1) ha
    have i1 := hb a (by omega)
    have i2 := hb (a + 1) ha
    unfold zn_F at o1 o2 i1 i2
    rw [zn_at] at H0 H1
    show wY_nextOrder_7 post (nI n) (nI c) al ah gi od ws os la (a + 1 + 1) (nI a)
    rw [wY_nextOrder_7]
    refine br_f (nI_pos (by omega)) ⟨v1, v2, ?_⟩
    rw [c1, c2]
    by_cases h : p.getD a 0 ≤ p.getD (a + 1) 0
    · rw [Nat.ble_eq_true_of_le h, cond_true] at H0 H1
      have hx : od a ≤ od (a + 1) := by rw [o1, o2]; exact nI_le h i2
      exact br_t hx (H1 a rfl)
    · rw [zn_ble h, cond_false] at H0 H1
      have hx : ¬ od a ≤ od (a + 1) := by rw [o1, o2]; exact nI_ge (by omega) i1
      exact br_f hx (nm_r (zy_xm a) (ih (by omega) H0 H1))
theorem zy_next {post : Int32 → SY → Prop} (h2 : 2 ≤ n) (h7 : n ≤ 7) {p : List Nat} (hr : zy_RO n p od) (hb : ∀ x, x < n → zn_F p x < 2 ^ 31) (H : zy_nx n p od (fun r od' => post r (nI n, nI c, al, ah, gi, od', ws, os, la))) : wpY_nextOrder post (nI n, nI c, al, ah, gi, od, ws, os, la) := by
  obtain ⟨H0, H1⟩ := H
  have e : nI n - 2 = zy_x (n - 1) := by
    obtain ⟨m, rfl⟩ : ∃ m, n = m + 2 := ⟨n - 2, by omega⟩
    exact pk_sub (b := 2) (by omega)
  have e2 : nI n - 1 = nI (n - 1) := pk_sub (b := 1) (by omega)
  refine nm_r e ⟨_, zy_nx7 h7 hr hb (n - 1) (by omega) (fun h0 => ?_) (fun t h1 => ?_)⟩
  · refine br_f (by decide) (H0 ?_)
    unfold zn_P
    rw [h0]
  · obtain ⟨f1, f2⟩ := zn_at_f p (n - 1) t h1
    refine br_t (nI_pos' (by omega)) (nm_r e2 ⟨_, zy_nx47 h7 hr hb (by omega) f1 (n - 1) (by omega) (by omega) (fun od' ho => H1 _ od' ?_ ho)⟩)
    unfold zn_P
    rw [h1]
end
/-- the loop over all orders, over any W -/
theorem zy_loop (n : Nat) (W : Nat → Int32 → Int32 → (Nat → Int32) → (Nat → Int32) → Prop) (Po : Int32 → Prop) (val : List Nat → Nat) (h0 : ∀ N x od ws, Po x → W (N + 1) x 0 od ws) (h1 : ∀ N m od ws p, zn_ok n p = true → zy_RO n p od → (∀ ws', zy_nx n p od (fun r od' => W N (nI (m + val p)) r od' ws')) → W (N + 1) (nI m) 1 od ws) : ∀ (l : List (List Nat)) (p : List Nat) (m : Nat) (od ws : Nat → Int32), zn_ch n (p :: l) → (∀ q, q ∈ p :: l → zn_ok n q = true) → zy_RO n p od → Po (nI (m + zl_s val (p :: l))) → W (l.length + 2) (nI m) 1 od ws := by
  intro l
  induction l with
  | nil =>
    intro p m od ws hc hok hr H
    have hc' : zn_P n p = none := hc
    refine h1 1 m od ws p (hok p (List.mem_cons_self ..)) hr (fun ws' => ⟨fun _ => h0 0 _ od ws' H, fun q od' e => ?_⟩)
    rw [hc'] at e
    exact absurd e (by intro z; cases z)
  | cons q l ih =>
    intro p m od ws hc hok hr H
    have hc' : zn_P n p = some q ∧ zn_ch n (q :: l) := hc
    refine h1 (l.length + 2) m od ws p (hok p (List.mem_cons_self ..)) hr (fun ws' => ⟨fun e => ?_, fun q' od' e hr' => ?_⟩)
    · rw [hc'.1] at e
      exact absurd e (by intro z; cases z)
    · rw [hc'.1] at e
      cases e
      refine ih q (m + val p) od' ws' hc'.2 (fun r hm => hok r (List.mem_cons_of_mem _ hm)) hr' ?_
      rw [zl_s, ← Nat.add_assoc] at H
      exact H
end
section
/-! the reference: what is counted over all orders -/
section
variable {n c : Nat} {lo hi : Nat → Nat} {al ah gi od ws os la : Nat → Int32}
theorem zy_first2 {post : SY → Prop} (h7 : n ≤ 7) (H : post (nI n, nI c, al, ah, gi, zx_cp n (fun x => nI (x + 1)) od, ws, os, la)) : ∀ (d i : Nat), i + d = n → wY_firstOrder_2 post (nI n) (nI c) (d + 1) (nI i) al ah gi (zx_cp i (fun x => nI (x + 1)) od) ws os la := by
  intro d
  induction d with
  | zero =>
    intro i hi'
    have e : i = n := by omega
    subst e
    exact br_t (nI_le (by omega) (by omega)) H
  | succ d ih =>
    intro i hi'
    have hv : vp_in (nI i) 7 := vp_in_nI (by omega) (by omega)
    have e : upd (zx_cp i (fun x => nI (x + 1)) od) (nI i).toNatClampNeg (nI i + 1) = zx_cp (i + 1) (fun x => nI (x + 1)) od := by
      rw [nI_clamp (by omega), nI_1]
      exact zx_cps i _ _
    exact br_f (nI_ge (by omega) (by omega)) ⟨hv, nm_r e (nm_r (nI_1 i) (ih (i + 1) (by omega)))⟩
theorem zy_id (n : Nat) (od : Nat → Int32) : zy_RO n (zn_id n) (zx_cp n (fun x => nI (x + 1)) od) := by
  have hl : (zn_id n).length = n := by rw [zn_id, List.length_map, List.length_range]
  refine ⟨hl, fun x hx => ?_⟩
  rw [zx_cpl hx]
  unfold zn_F
  rw [zn_get (by rw [hl]; exact hx)]
  simp [zn_id]
theorem zy_first {post : SY → Prop} (h7 : n ≤ 7) (H : ∀ od, zy_RO n (zn_id n) od → post (nI n, nI c, al, ah, gi, od, ws, os, la)) : wpY_firstOrder post (nI n, nI c, al, ah, gi, od, ws, os, la) := by
  have h := zy_first2 (al := al) (ah := ah) (gi := gi) (od := od) (ws := ws) (os := os) (la := la) (c := c) h7 (H _ (zy_id n od)) n 0 (by omega)
  rw [zx_cp0] at h
  exact ⟨_, h⟩
theorem zy_pass30 {post : SY → Prop} (I : zx_I n c lo hi al ah) {x1 : Int32} {sk : Nat → Bool} (hsk : ∀ k, k < 24 → (nI k = x1 ↔ sk k = true)) (f : Nat → Int32) (H : post (nI n, nI c, al, ah, gi, od, zp_ps lo hi sk c f, os, la)) : ∀ (d k : Nat), k + d = c → wY_pass_30 post x1 (d + 1) (nI k) (nI n) (nI c) al ah gi od (zp_ps lo hi sk k f) os la := by
  have hc := I.1.2.2
  intro d
  induction d with
  | zero =>
    intro k hk
    have e : k = c := by omega
    subst e
    exact br_t (nI_le (by omega) (by omega)) H
  | succ d ih =>
    intro k hk
    have h := ih (k + 1) (by omega)
    rw [zp_ps] at h
    by_cases hq : sk k = true
    · rw [if_pos hq] at h
      exact br_f (nI_ge (by omega) (by omega)) (br_t ((hsk k (by omega)).mpr hq) (nm_r (nI_1 k) h))
    · rw [if_neg hq] at h
      refine br_f (nI_ge (by omega) (by omega)) (br_f (fun q => hq ((hsk k (by omega)).mp q)) (zy_cmp I (by omega) ?_))
      dsimp only
      exact nm_r (nI_1 k) h
theorem zy_pass2 {post : SY → Prop} (I : zx_I n c lo hi al ah) {x1 : Int32} {sk : Nat → Bool} (hsk : ∀ k, k < 24 → (nI k = x1 ↔ sk k = true)) (H : post (nI n, nI c, al, ah, gi, od, zp_ps lo hi sk c (zx_cp n od ws), os, la)) : ∀ (d i : Nat), i + d = n → wY_pass_2 post x1 (nI n) (nI c) (d + 1) (nI i) al ah gi od (zx_cp i od ws) os la := by
  have h7 := I.1.2.1
  intro d
  induction d with
  | zero =>
    intro i hi'
    have e : i = n := by omega
    subst e
    exact br_t (nI_le (by omega) (by omega)) ⟨_, zy_pass30 I hsk (zx_cp i od ws) H c 0 (by omega)⟩
  | succ d ih =>
    intro i hi'
    have hv : vp_in (nI i) 7 := vp_in_nI (by omega) (by omega)
    have e : upd (zx_cp i od ws) (nI i).toNatClampNeg (od (nI i).toNatClampNeg) = zx_cp (i + 1) od ws := by
      rw [nI_clamp (by omega), zx_cps]
    exact br_f (nI_ge (by omega) (by omega)) ⟨hv, hv, nm_r e (nm_r (nI_1 i) (ih (i + 1) (by omega)))⟩
/-- what is on the wires behind a pass, as naturals -/
theorem zy_val (I : zx_I n c lo hi al ah) (sk : Nat → Bool) (m : Nat) {p : List Nat} (hok : zn_ok n p = true) (hr : zy_RO n p od) (ws : Nat → Int32) : ∀ x, x < n → zp_ps lo hi sk m (zx_cp n od ws) x = nI (zt_ps lo hi sk m (zn_F p) x) ∧ zt_ps lo hi sk m (zn_F p) x ≤ 7 := by
  have h7 := I.1.2.1
  have hk : ∀ k, k < m → lo k < n ∧ hi k < n := fun k _ => ⟨I.2.2.2.1 k, I.2.2.2.2 k⟩
  intro x hx
  refine ⟨zp_nat sk (fun y hy => (zx_cpl hy).trans (hr.2 y hy)) (fun y hy => ?_) hk x hx, ?_⟩
  · have := zn_okb hok hy
    omega
  · have := zt_all sk (P := fun y => y ≤ n) (fun y hy => (zn_okb hok hy).2) hk x hx
    omega
theorem zy_bnd (h7 : n ≤ 7) {p : List Nat} (hok : zn_ok n p = true) : ∀ x, x < n → zn_F p x < 2 ^ 31 := by
  intro x hx
  have := zn_okb hok hx
  omega
theorem zy_pass {post : SY → Prop} (I : zx_I n c lo hi al ah) {x1 : Int32} {sk : Nat → Bool} (hsk : ∀ k, k < 24 → (nI k = x1 ↔ sk k = true)) {p : List Nat} (hok : zn_ok n p = true) (hr : zy_RO n p od) (H : ∀ ws, (∀ x, x < n → ws x = nI (zt_ps lo hi sk c (zn_F p) x) ∧ zt_ps lo hi sk c (zn_F p) x ≤ 7) → post (nI n, nI c, al, ah, gi, od, ws, os, la)) : wpY_pass post (nI n, nI c, al, ah, gi, od, ws, os, la) x1 := by
  have h := zy_pass2 (gi := gi) (od := od) (ws := ws) (os := os) (la := la) I hsk (H _ (zy_val I sk c hok hr ws)) n 0 (by omega)
  rw [zx_cp0] at h
  exact ⟨_, h⟩
theorem zy_all4 {post : Int32 → Prop} (h2 : 2 ≤ n) (h7 : n ≤ 7) (H : post (nI (zw_f n))) : ∀ (d j : Nat), j + d = n → wY_all_4 post (nI n) (nI c) al ah gi od ws os la (d + 1) (nI (zw_f j)) (nI (j + 1)) := by
  intro d
  induction d with
  | zero =>
    intro j hj
    have e : j = n := by omega
    subst e
    exact br_t (nI_lt (by omega) (by omega)) H
  | succ d ih =>
    intro j hj
    have e : nI (zw_f j) * nI (j + 1) = nI (zw_f (j + 1)) := pk_mul _ _
    exact br_f (nI_nlt (by omega) (by omega)) (nm_r e (nm_r (nI_1 (j + 1)) (ih (j + 1) (by omega))))
theorem zy_all {post : Int32 → Prop} (h2 : 2 ≤ n) (h7 : n ≤ 7) (H : post (nI (zw_f n))) : wpY_all post (nI n, nI c, al, ah, gi, od, ws, os, la) := ⟨_, zy_all4 h2 h7 H (n - 1) 1 (by omega)⟩
theorem zy_so2 {post : Int32 → Prop} (h7 : n ≤ 7) {q : Nat → Nat} (hw : ∀ x, x < n → ws x = nI (q x) ∧ q x ≤ 7) (H : post (zx_b (zc_so n q))) : ∀ (d i : Nat), i + d = n → (∀ x, x < i → q x = x + 1) → wY_isSorted_2 post (nI n) (nI c) al ah gi od ws os la (d + 1) (nI i) := by
  intro d
  induction d with
  | zero =>
    intro i hi' hq
    have e : i = n := by omega
    subst e
    have e2 : zc_so i q = true := decide_eq_true hq
    rw [e2] at H
    exact br_t (nI_le (by omega) (by omega)) H
  | succ d ih =>
    intro i hi' hq
    have hv : vp_in (nI i) 7 := vp_in_nI (by omega) (by omega)
    obtain ⟨w1, w2⟩ := hw i (by omega)
    rw [wY_isSorted_2]
    refine br_f (nI_ge (by omega) (by omega)) ⟨hv, ?_⟩
    rw [nI_clamp (by omega), w1, nI_1]
    by_cases h : q i = i + 1
    · refine br_t (by rw [h]) (nm_e (ih (i + 1) (by omega) (fun x hx => ?_)))
      by_cases e : x = i
      · rw [e]; exact h
      · exact hq x (by omega)
    · have e2 : zc_so n q = false := decide_eq_false (fun z => h (z i (by omega)))
      rw [e2] at H
      exact br_f (fun z => h ((nI_eq (by omega) (by omega)).mp z)) H
theorem zy_so {post : Int32 → Prop} (h7 : n ≤ 7) {q : Nat → Nat} (hw : ∀ x, x < n → ws x = nI (q x) ∧ q x ≤ 7) (H : post (zx_b (zc_so n q))) : wpY_isSorted post (nI n, nI c, al, ah, gi, od, ws, os, la) := ⟨_, zy_so2 h7 hw H n 0 (by omega) (fun x hx => absurd hx (Nat.not_lt_zero x))⟩
theorem zy_sorted8 {post : Int32 → SY → Prop} (I : zx_I n c lo hi al ah) {l : List (List Nat)} (hch : zn_ch n (zn_id n :: l)) (hok : ∀ q, q ∈ zn_id n :: l → zn_ok n q = true) (hr : zy_RO n (zn_id n) od) (H : ∀ od ws, post (nI (zl_s (fun q => if zc_so n (zt_ps lo hi zp_no c (zn_F q)) then 1 else 0) (zn_id n :: l))) (nI n, nI c, al, ah, gi, od, ws, os, la)) : wY_sorted_8 post (l.length + 2) 0 1 (nI n) (nI c) al ah gi od ws os la := by
  have h2 := I.1.1
  have h7 := I.1.2.1
  refine zy_loop n (fun N x r od ws => wY_sorted_8 post N x r (nI n) (nI c) al ah gi od ws os la) (fun x => ∀ od ws, post x (nI n, nI c, al, ah, gi, od, ws, os, la)) (fun q => if zc_so n (zt_ps lo hi zp_no c (zn_F q)) then 1 else 0) ?_ ?_ l (zn_id n) 0 od ws hch hok hr ?_
  · intro N x od ws hx
    exact br_t rfl (hx od ws)
  · intro N m od ws p hp hr' hn
    refine br_f (by decide) (zy_pass I zx_sk0 hp hr' (fun ws' hw => ?_))
    dsimp only
    refine zy_so h7 hw ?_
    have hn' := hn ws'
    generalize zc_so n (zt_ps lo hi zp_no c (zn_F p)) = b at hn' ⊢
    cases b
    · exact br_t rfl (zy_next h2 h7 hr' (zy_bnd h7 hp) hn')
    · exact br_f (by decide) (nm_r (nI_1 m) (zy_next h2 h7 hr' (zy_bnd h7 hp) hn'))
  · rw [Nat.zero_add]
    exact H
theorem zy_sorted {post : Int32 → SY → Prop} (I : zx_I n c lo hi al ah) {l : List (List Nat)} (hch : zn_ch n (zn_id n :: l)) (hok : ∀ q, q ∈ zn_id n :: l → zn_ok n q = true) (H : ∀ od ws, post (nI (zl_s (fun q => if zc_so n (zt_ps lo hi zp_no c (zn_F q)) then 1 else 0) (zn_id n :: l))) (nI n, nI c, al, ah, gi, od, ws, os, la)) : wpY_sorted post (nI n, nI c, al, ah, gi, od, ws, os, la) := by
  unfold wpY_sorted
  dsimp only
  refine zy_first I.1.2.1 (fun od hr => ?_)
  dsimp only
  exact ⟨_, zy_sorted8 I hch hok hr H⟩
theorem zy_ranks1 {post : Int32 → SY → Prop} {v w : Int32} (h : v < 0 ∨ nI n ≤ v) (H : post (-1) (nI n, nI c, al, ah, gi, od, ws, os, la)) : wpY_ranks post (nI n, nI c, al, ah, gi, od, ws, os, la) v w := by
  unfold wpY_ranks
  dsimp only
  exact zy_bad1 h (br_f (by decide) H)
theorem zy_ranks2 {post : Int32 → SY → Prop} (h7 : n ≤ 7) {v : Nat} {w : Int32} (hv : v < n) (h : w < 1 ∨ ¬ w ≤ nI n) (H : post (-1) (nI n, nI c, al, ah, gi, od, ws, os, la)) : wpY_ranks post (nI n, nI c, al, ah, gi, od, ws, os, la) (nI v) w := by
  unfold wpY_ranks
  dsimp only
  refine zy_bad0 h7 hv (br_t rfl ?_)
  by_cases h1 : w < 1
  · exact br_t h1 H
  · exact br_f h1 (br_f (h.resolve_left h1) H)
theorem zy_ranks32 {post : Int32 → SY → Prop} (I : zx_I n c lo hi al ah) {v r : Nat} (hv : v < n) (hrn : r ≤ n) {l : List (List Nat)} (hch : zn_ch n (zn_id n :: l)) (hok : ∀ q, q ∈ zn_id n :: l → zn_ok n q = true) (hr : zy_RO n (zn_id n) od) (H : ∀ od ws, post (nI (zl_s (fun q => if zt_ps lo hi zp_no c (zn_F q) v = r then 1 else 0) (zn_id n :: l))) (nI n, nI c, al, ah, gi, od, ws, os, la)) : wY_ranks_32 post (nI v) (nI r) (l.length + 2) 0 1 (nI n) (nI c) al ah gi od ws os la := by
  have h2 := I.1.1
  have h7 := I.1.2.1
  refine zy_loop n (fun N x r' od ws => wY_ranks_32 post (nI v) (nI r) N x r' (nI n) (nI c) al ah gi od ws os la) (fun x => ∀ od ws, post x (nI n, nI c, al, ah, gi, od, ws, os, la)) (fun q => if zt_ps lo hi zp_no c (zn_F q) v = r then 1 else 0) ?_ ?_ l (zn_id n) 0 od ws hch hok hr ?_
  · intro N x od ws hx
    exact br_t rfl (hx od ws)
  · intro N m od ws p hp hr' hn
    refine br_f (by decide) (zy_pass I zx_sk0 hp hr' (fun ws' hw => ?_))
    dsimp only
    obtain ⟨w1, w2⟩ := hw v hv
    have hn' := hn ws'
    refine ⟨vp_in_nI (by omega) (by omega), ?_⟩
    rw [nI_clamp (by omega), w1]
    generalize zt_ps lo hi zp_no c (zn_F p) v = o at hn' w2 ⊢
    by_cases h : o = r
    · rw [if_pos h] at hn'
      exact br_t (by rw [h]) (nm_r (nI_1 m) (zy_next h2 h7 hr' (zy_bnd h7 hp) hn'))
    · rw [if_neg h] at hn'
      exact br_f (fun z => h ((nI_eq (by omega) (by omega)).mp z)) (zy_next h2 h7 hr' (zy_bnd h7 hp) hn')
  · rw [Nat.zero_add]
    exact H
theorem zy_ranks0 {post : Int32 → SY → Prop} (I : zx_I n c lo hi al ah) {v r : Nat} (hv : v < n) (h1 : 1 ≤ r) (hrn : r ≤ n) {l : List (List Nat)} (hch : zn_ch n (zn_id n :: l)) (hok : ∀ q, q ∈ zn_id n :: l → zn_ok n q = true) (H : ∀ od ws, post (nI (zl_s (fun q => if zt_ps lo hi zp_no c (zn_F q) v = r then 1 else 0) (zn_id n :: l))) (nI n, nI c, al, ah, gi, od, ws, os, la)) : wpY_ranks post (nI n, nI c, al, ah, gi, od, ws, os, la) (nI v) (nI r) := by
  have h7 := I.1.2.1
  unfold wpY_ranks
  dsimp only
  refine zy_bad0 h7 hv (br_t rfl (br_f (nI_nlt (b := 1) h1 (by omega)) (br_t (nI_le hrn (by omega)) (zy_first h7 (fun od hr => ?_)))))
  dsimp only
  exact ⟨_, zy_ranks32 I hv hrn hch hok hr H⟩
theorem zy_below1 {post : Int32 → SY → Prop} {v w : Int32} (h : v < 0 ∨ nI n ≤ v) (H : post (-1) (nI n, nI c, al, ah, gi, od, ws, os, la)) : wpY_below post (nI n, nI c, al, ah, gi, od, ws, os, la) v w := by
  unfold wpY_below
  dsimp only
  exact zy_bad1 h (br_f (by decide) H)
theorem zy_below2 {post : Int32 → SY → Prop} (h7 : n ≤ 7) {v : Nat} {w : Int32} (hv : v < n) (h : w < 0 ∨ nI n ≤ w) (H : post (-1) (nI n, nI c, al, ah, gi, od, ws, os, la)) : wpY_below post (nI n, nI c, al, ah, gi, od, ws, os, la) (nI v) w := by
  unfold wpY_below
  dsimp only
  exact zy_bad0 h7 hv (br_t rfl (zy_bad1 h (br_f (by decide) H)))
theorem zy_below27 {post : Int32 → SY → Prop} (I : zx_I n c lo hi al ah) {v u : Nat} (hv : v < n) (hu : u < n) {l : List (List Nat)} (hch : zn_ch n (zn_id n :: l)) (hok : ∀ q, q ∈ zn_id n :: l → zn_ok n q = true) (hr : zy_RO n (zn_id n) od) (H : ∀ od ws, post (nI (zl_s (fun q => if zt_ps lo hi zp_no c (zn_F q) v < zt_ps lo hi zp_no c (zn_F q) u then 1 else 0) (zn_id n :: l))) (nI n, nI c, al, ah, gi, od, ws, os, la)) : wY_below_27 post (nI v) (nI u) (l.length + 2) 0 1 (nI n) (nI c) al ah gi od ws os la := by
  have h2 := I.1.1
  have h7 := I.1.2.1
  refine zy_loop n (fun N x r' od ws => wY_below_27 post (nI v) (nI u) N x r' (nI n) (nI c) al ah gi od ws os la) (fun x => ∀ od ws, post x (nI n, nI c, al, ah, gi, od, ws, os, la)) (fun q => if zt_ps lo hi zp_no c (zn_F q) v < zt_ps lo hi zp_no c (zn_F q) u then 1 else 0) ?_ ?_ l (zn_id n) 0 od ws hch hok hr ?_
  · intro N x od ws hx
    exact br_t rfl (hx od ws)
  · intro N m od ws p hp hr' hn
    refine br_f (by decide) (zy_pass I zx_sk0 hp hr' (fun ws' hw => ?_))
    dsimp only
    obtain ⟨w1, w2⟩ := hw v hv
    obtain ⟨w3, w4⟩ := hw u hu
    have hn' := hn ws'
    refine ⟨vp_in_nI (by omega) (by omega), vp_in_nI (by omega) (by omega), ?_⟩
    rw [nI_clamp (by omega), nI_clamp (by omega), w1, w3]
    generalize zt_ps lo hi zp_no c (zn_F p) v = o at hn' w2 ⊢
    generalize zt_ps lo hi zp_no c (zn_F p) u = o2 at hn' w4 ⊢
    by_cases h : o < o2
    · rw [if_pos h] at hn'
      exact br_f (nI_ge h (by omega)) (nm_r (nI_1 m) (zy_next h2 h7 hr' (zy_bnd h7 hp) hn'))
    · rw [if_neg h] at hn'
      exact br_t (nI_le (by omega) (by omega)) (zy_next h2 h7 hr' (zy_bnd h7 hp) hn')
  · rw [Nat.zero_add]
    exact H
theorem zy_below0 {post : Int32 → SY → Prop} (I : zx_I n c lo hi al ah) {v u : Nat} (hv : v < n) (hu : u < n) {l : List (List Nat)} (hch : zn_ch n (zn_id n :: l)) (hok : ∀ q, q ∈ zn_id n :: l → zn_ok n q = true) (H : ∀ od ws, post (nI (zl_s (fun q => if zt_ps lo hi zp_no c (zn_F q) v < zt_ps lo hi zp_no c (zn_F q) u then 1 else 0) (zn_id n :: l))) (nI n, nI c, al, ah, gi, od, ws, os, la)) : wpY_below post (nI n, nI c, al, ah, gi, od, ws, os, la) (nI v) (nI u) := by
  have h7 := I.1.2.1
  unfold wpY_below
  dsimp only
  refine zy_bad0 h7 hv (br_t rfl (zy_bad0 h7 hu (br_t rfl (zy_first h7 (fun od hr => ?_)))))
  dsimp only
  exact ⟨_, zy_below27 I hv hu hch hok hr H⟩
theorem zy_sorts {post : Int32 → SY → Prop} (I : zx_I n c lo hi al ah) {l : List (List Nat)} (hch : zn_ch n (zn_id n :: l)) (hok : ∀ q, q ∈ zn_id n :: l → zn_ok n q = true) (hT : nI (zl_s (fun q => if zc_so n (zt_ps lo hi zp_no c (zn_F q)) then 1 else 0) (zn_id n :: l)) = nI (zw_f n) → ∀ od ws, post 1 (nI n, nI c, al, ah, gi, od, ws, os, la)) (hF : ¬ nI (zl_s (fun q => if zc_so n (zt_ps lo hi zp_no c (zn_F q)) then 1 else 0) (zn_id n :: l)) = nI (zw_f n) → ∀ od ws, post 0 (nI n, nI c, al, ah, gi, od, ws, os, la)) : wpY_sorts post (nI n, nI c, al, ah, gi, od, ws, os, la) := by
  unfold wpY_sorts
  dsimp only
  refine zy_all I.1.1 I.1.2.1 (zy_sorted I hch hok (fun od ws => ?_))
  dsimp only
  exact br_c (fun h => hT h od ws) (fun h => hF h od ws)
end
end
section
/-! the reference: works and idle -/
def zy_f (n c : Nat) (lo hi : Nat → Nat) (k : Nat) (p : List Nat) : Bool := decide (∀ x, x < n → zt_ps lo hi zp_no c (zn_F p) x = zt_ps lo hi (zx_skk k) c (zn_F p) x)
section
variable {n c : Nat} {lo hi : Nat → Nat} {al ah gi od ws os la : Nat → Int32}
theorem zy_w61 {post : Int32 → SY → Prop} {J : Int32 → Int32 → Int32 → Int32 → (Nat → Int32) → (Nat → Int32) → (Nat → Int32) → (Nat → Int32) → (Nat → Int32) → (Nat → Int32) → (Nat → Int32) → Prop} (I : zx_I n c lo hi al ah) {k a : Nat} (hk : k < c) (f : Nat → Int32) (H0 : decide (zp_ps lo hi zp_no k f (hi k) < zp_ps lo hi zp_no k f (lo k)) = false → wY_works_89 post J (nI k) (nI a) (nI n) (nI c) al ah gi od (zp_ps lo hi zp_no (k + 1) f) os la) (H1 : decide (zp_ps lo hi zp_no k f (hi k) < zp_ps lo hi zp_no k f (lo k)) = true → wY_works_89 post J (nI k) (nI (a + 1)) (nI n) (nI c) al ah gi od (zp_ps lo hi zp_no (k + 1) f) os la) : ∀ (d m : Nat) (b : Bool), m + d = k + 1 → (m = k + 1 → b = decide (zp_ps lo hi zp_no k f (hi k) < zp_ps lo hi zp_no k f (lo k))) → wY_works_61 post J (nI k) (nI a) (d + 1) (zx_b b) (nI m) (nI n) (nI c) al ah gi od (zp_ps lo hi zp_no m f) os la := by
  have hc := I.1.2.2
  intro d
  induction d with
  | zero =>
    intro m b hm hb
    have e : m = k + 1 := by omega
    subst e
    have hb' := hb rfl
    rw [wY_works_61]
    refine br_t (nI_lt (by omega) (by omega)) ?_
    cases b
    · exact br_t rfl (H0 hb'.symm)
    · exact br_f (by decide) (nm_r (nI_1 a) (H1 hb'.symm))
  | succ d ih =>
    intro m b hm _
    have h := ih (m + 1) (decide (zp_ps lo hi zp_no m f (hi m) < zp_ps lo hi zp_no m f (lo m))) (by omega) (fun e => by
      have e2 : m = k := by omega
      rw [e2])
    rw [zp_psn] at h
    rw [wY_works_61]
    refine br_f (nI_nlt (by omega) (by omega)) (zy_cmp I (by omega) ?_)
    dsimp only
    exact nm_r (nI_1 m) h
theorem zy_w26 {post : Int32 → SY → Prop} {J : Int32 → Int32 → Int32 → Int32 → (Nat → Int32) → (Nat → Int32) → (Nat → Int32) → (Nat → Int32) → (Nat → Int32) → (Nat → Int32) → (Nat → Int32) → Prop} (I : zx_I n c lo hi al ah) {k a : Nat} (hk : k < c) (H0 : decide (zp_ps lo hi zp_no k (zx_cp n od ws) (hi k) < zp_ps lo hi zp_no k (zx_cp n od ws) (lo k)) = false → wY_works_89 post J (nI k) (nI a) (nI n) (nI c) al ah gi od (zp_ps lo hi zp_no (k + 1) (zx_cp n od ws)) os la) (H1 : decide (zp_ps lo hi zp_no k (zx_cp n od ws) (hi k) < zp_ps lo hi zp_no k (zx_cp n od ws) (lo k)) = true → wY_works_89 post J (nI k) (nI (a + 1)) (nI n) (nI c) al ah gi od (zp_ps lo hi zp_no (k + 1) (zx_cp n od ws)) os la) : ∀ (d i : Nat), i + d = n → wY_works_26 post J (nI k) (nI a) (nI n) (nI c) (d + 1) (nI i) al ah gi od (zx_cp i od ws) os la := by
  have h7 := I.1.2.1
  intro d
  induction d with
  | zero =>
    intro i hi'
    have e : i = n := by omega
    subst e
    exact br_t (nI_le (by omega) (by omega)) ⟨_, zy_w61 I hk (zx_cp i od ws) H0 H1 (k + 1) 0 false (by omega) (fun e => absurd e (by omega))⟩
  | succ d ih =>
    intro i hi'
    have hv : vp_in (nI i) 7 := vp_in_nI (by omega) (by omega)
    have e : upd (zx_cp i od ws) (nI i).toNatClampNeg (od (nI i).toNatClampNeg) = zx_cp (i + 1) od ws := by
      rw [nI_clamp (by omega), zx_cps]
    exact br_f (nI_ge (by omega) (by omega)) ⟨hv, hv, nm_r e (nm_r (nI_1 i) (ih (i + 1) (by omega)))⟩
theorem zy_works19 {post : Int32 → SY → Prop} (I : zx_I n c lo hi al ah) {k : Nat} (hk : k < c) {l : List (List Nat)} (hch : zn_ch n (zn_id n :: l)) (hok : ∀ q, q ∈ zn_id n :: l → zn_ok n q = true) (hr : zy_RO n (zn_id n) od) (H : ∀ od ws, post (nI (zl_s (fun q => if zt_ps lo hi zp_no k (zn_F q) (hi k) < zt_ps lo hi zp_no k (zn_F q) (lo k) then 1 else 0) (zn_id n :: l))) (nI n, nI c, al, ah, gi, od, ws, os, la)) : wY_works_19 post (nI k) (l.length + 2) 0 1 (nI n) (nI c) al ah gi od ws os la := by
  have h2 := I.1.1
  have h7 := I.1.2.1
  refine zy_loop n (fun N x r' od ws => wY_works_19 post (nI k) N x r' (nI n) (nI c) al ah gi od ws os la) (fun x => ∀ od ws, post x (nI n, nI c, al, ah, gi, od, ws, os, la)) (fun q => if zt_ps lo hi zp_no k (zn_F q) (hi k) < zt_ps lo hi zp_no k (zn_F q) (lo k) then 1 else 0) ?_ ?_ l (zn_id n) 0 od ws hch hok hr ?_
  · intro N x od ws hx
    exact br_t rfl (hx od ws)
  · intro N m od ws p hp hr' hn
    have w1 := zy_val I zp_no k hp hr' ws (hi k) (I.2.2.2.2 k)
    have w2 := zy_val I zp_no k hp hr' ws (lo k) (I.2.2.2.1 k)
    have hn' := hn (zp_ps lo hi zp_no (k + 1) (zx_cp n od ws))
    have h := zy_w26 (post := post) (J := wY_works_19 post (nI k) N) (gi := gi) (od := od) (ws := ws) (os := os) (la := la) I (a := m) hk ?_ ?_ n 0 (by omega)
    · rw [zx_cp0] at h
      exact br_f (by decide) ⟨_, h⟩
    · intro hd
      rw [w1.1, w2.1] at hd
      have hd' := of_decide_eq_false hd
      rw [if_neg (fun z => hd' (nI_lt z (by omega)))] at hn'
      exact zy_next h2 h7 hr' (zy_bnd h7 hp) hn'
    · intro hd
      rw [w1.1, w2.1] at hd
      have hd' := of_decide_eq_true hd
      rw [nI_ltI (by omega) (by omega)] at hd'
      rw [if_pos hd'] at hn'
      exact zy_next h2 h7 hr' (zy_bnd h7 hp) hn'
  · rw [Nat.zero_add]
    exact H
theorem zy_works1 {post : Int32 → SY → Prop} {v : Int32} (h : v < 0 ∨ nI c ≤ v) (H : post (-4) (nI n, nI c, al, ah, gi, od, ws, os, la)) : wpY_works post (nI n, nI c, al, ah, gi, od, ws, os, la) v := by
  unfold wpY_works
  dsimp only
  exact zy_is0 h (br_t rfl H)
theorem zy_works0 {post : Int32 → SY → Prop} (I : zx_I n c lo hi al ah) {k : Nat} (hk : k < c) {l : List (List Nat)} (hch : zn_ch n (zn_id n :: l)) (hok : ∀ q, q ∈ zn_id n :: l → zn_ok n q = true) (H : ∀ od ws, post (nI (zl_s (fun q => if zt_ps lo hi zp_no k (zn_F q) (hi k) < zt_ps lo hi zp_no k (zn_F q) (lo k) then 1 else 0) (zn_id n :: l))) (nI n, nI c, al, ah, gi, od, ws, os, la)) : wpY_works post (nI n, nI c, al, ah, gi, od, ws, os, la) (nI k) := by
  unfold wpY_works
  dsimp only
  refine zy_is1 I.1.2.2 hk (br_f (by decide) (zy_first I.1.2.1 (fun od hr => ?_)))
  dsimp only
  exact ⟨_, zy_works19 I hk hch hok hr H⟩
theorem zy_same40 {post : Int32 → SY → Prop} (h7 : n ≤ 7) {q1 q2 : Nat → Nat} (ho : ∀ x, x < n → os x = nI (q1 x) ∧ q1 x ≤ 7) (hw : ∀ x, x < n → ws x = nI (q2 x) ∧ q2 x ≤ 7) (H : post (zx_b (decide (∀ x, x < n → q1 x = q2 x))) (nI n, nI c, al, ah, gi, od, ws, os, la)) : ∀ (d i : Nat), i + d = n → (∀ x, x < i → q1 x = q2 x) → wY_same_40 post (nI n) (nI c) al ah gi od ws os la (d + 1) (nI i) := by
  intro d
  induction d with
  | zero =>
    intro i hi' hq
    have e : i = n := by omega
    subst e
    rw [decide_eq_true hq] at H
    exact br_t (nI_le (by omega) (by omega)) H
  | succ d ih =>
    intro i hi' hq
    have hv : vp_in (nI i) 7 := vp_in_nI (by omega) (by omega)
    obtain ⟨w1, w2⟩ := hw i (by omega)
    obtain ⟨w3, w4⟩ := ho i (by omega)
    rw [wY_same_40]
    refine br_f (nI_ge (by omega) (by omega)) ⟨hv, hv, ?_⟩
    rw [nI_clamp (by omega), w1, w3]
    by_cases h : q1 i = q2 i
    · refine br_t (by rw [h]) (nm_r (nI_1 i) (ih (i + 1) (by omega) (fun x hx => ?_)))
      by_cases e : x = i
      · rw [e]; exact h
      · exact hq x (by omega)
    · rw [decide_eq_false (fun z => h (z i (by omega)))] at H
      exact br_f (fun z => h ((nI_eq (by omega) (by omega)).mp z)) H
theorem zy_same7 {post : Int32 → SY → Prop} (I : zx_I n c lo hi al ah) {k : Nat} (hk : k < c) {p : List Nat} (hok : zn_ok n p = true) (hr : zy_RO n p od) (hw : ∀ x, x < n → ws x = nI (zt_ps lo hi zp_no c (zn_F p) x) ∧ zt_ps lo hi zp_no c (zn_F p) x ≤ 7) (H : ∀ ws os, post (zx_b (zy_f n c lo hi k p)) (nI n, nI c, al, ah, gi, od, ws, os, la)) : ∀ (d i : Nat), i + d = n → wY_same_7 post (nI k) (nI n) (nI c) (d + 1) (nI i) al ah gi od ws (zx_cp i ws os) la := by
  have h7 := I.1.2.1
  have hc := I.1.2.2
  intro d
  induction d with
  | zero =>
    intro i hi'
    have e : i = n := by omega
    subst e
    refine br_t (nI_le (by omega) (by omega)) (zy_pass I (zx_sk1 (by omega)) hok hr (fun ws' hw' => ?_))
    dsimp only
    exact ⟨_, zy_same40 h7 (fun x hx => ⟨(zx_cpl hx).trans (hw x hx).1, (hw x hx).2⟩) hw' (H _ _) i 0 (by omega) (fun x hx => absurd hx (Nat.not_lt_zero x))⟩
  | succ d ih =>
    intro i hi'
    have hv : vp_in (nI i) 7 := vp_in_nI (by omega) (by omega)
    have e : upd (zx_cp i ws os) (nI i).toNatClampNeg (ws (nI i).toNatClampNeg) = zx_cp (i + 1) ws os := by
      rw [nI_clamp (by omega), zx_cps]
    exact br_f (nI_ge (by omega) (by omega)) ⟨hv, hv, nm_r e (nm_r (nI_1 i) (ih (i + 1) (by omega)))⟩
theorem zy_same {post : Int32 → SY → Prop} (I : zx_I n c lo hi al ah) {k : Nat} (hk : k < c) {p : List Nat} (hok : zn_ok n p = true) (hr : zy_RO n p od) (H : ∀ ws os, post (zx_b (zy_f n c lo hi k p)) (nI n, nI c, al, ah, gi, od, ws, os, la)) : wpY_same post (nI n, nI c, al, ah, gi, od, ws, os, la) (nI k) := by
  unfold wpY_same
  dsimp only
  refine zy_pass I zx_sk0 hok hr (fun ws' hw => ?_)
  dsimp only
  have h := zy_same7 (gi := gi) (os := os) (la := la) I hk hok hr hw H n 0 (by omega)
  rw [zx_cp0] at h
  exact ⟨_, h⟩
theorem zy_id21 {post : Int32 → SY → Prop} {J : Int32 → Int32 → Int32 → Int32 → (Nat → Int32) → (Nat → Int32) → (Nat → Int32) → (Nat → Int32) → (Nat → Int32) → (Nat → Int32) → (Nat → Int32) → Prop} (I : zx_I n c lo hi al ah) {k : Nat} (hk : k < c) {x1 : Int32} : ∀ (l : List (List Nat)) (p : List Nat) (od ws os : Nat → Int32), zn_ch n (p :: l) → (∀ q, q ∈ p :: l → zn_ok n q = true) → zy_RO n p od → (∀ od ws os, wY_idle_45 post J x1 (nI k) (zx_b ((p :: l).all (zy_f n c lo hi k))) (nI n) (nI c) al ah gi od ws os la) → wY_idle_21 post J x1 (nI k) (l.length + 2) 1 1 (nI n) (nI c) al ah gi od ws os la := by
  have h2 := I.1.1
  have h7 := I.1.2.1
  intro l
  induction l with
  | nil =>
    intro p od ws os hch hok hr H
    have hc' : zn_P n p = none := hch
    have hp := hok p (List.mem_cons_self ..)
    rw [List.all_cons, List.all_nil, Bool.and_true] at H
    refine br_f (by decide) (br_f (by decide) (zy_same I hk hp hr (fun ws' os' => ?_)))
    dsimp only
    refine zy_next h2 h7 hr (zy_bnd h7 hp) ⟨fun _ => ?_, fun q od' e => ?_⟩
    · exact br_t rfl (H _ _ _)
    · rw [hc'] at e
      exact absurd e (by intro z; cases z)
  | cons q l ih =>
    intro p od ws os hch hok hr H
    have hc' : zn_P n p = some q ∧ zn_ch n (q :: l) := hch
    have hp := hok p (List.mem_cons_self ..)
    rw [List.all_cons] at H
    refine br_f (by decide) (br_f (by decide) (zy_same I hk hp hr (fun ws' os' => ?_)))
    dsimp only
    refine zy_next h2 h7 hr (zy_bnd h7 hp) ⟨fun e => ?_, fun q' od' e hr' => ?_⟩
    · rw [hc'.1] at e
      exact absurd e (by intro z; cases z)
    · rw [hc'.1] at e
      cases e
      generalize zy_f n c lo hi k p = b at H ⊢
      cases b
      · exact br_f (by decide) (br_t rfl (H _ _ _))
      · rw [Bool.true_and] at H
        exact ih q od' ws' os' hc'.2 (fun r hm => hok r (List.mem_cons_of_mem _ hm)) hr' H
theorem zy_idle4 {post : Int32 → SY → Prop} (I : zx_I n c lo hi al ah) {l : List (List Nat)} (hch : zn_ch n (zn_id n :: l)) (hok : ∀ q, q ∈ zn_id n :: l → zn_ok n q = true) (H : ∀ od ws os, post (nI (zs_s (fun k => ((zn_id n :: l).all (zy_f n c lo hi k)).toNat) c)) (nI n, nI c, al, ah, gi, od, ws, os, la)) : ∀ (d k : Nat) (od ws os : Nat → Int32), k + d = c → wY_idle_4 post (d + 1) (nI (zs_s (fun k => ((zn_id n :: l).all (zy_f n c lo hi k)).toNat) k)) (nI k) (nI n) (nI c) al ah gi od ws os la := by
  have h7 := I.1.2.1
  have hc := I.1.2.2
  intro d
  induction d with
  | zero =>
    intro k od ws os hk
    have e : k = c := by omega
    subst e
    exact br_t (nI_le (by omega) (by omega)) (H od ws os)
  | succ d ih =>
    intro k od ws os hk
    refine br_f (nI_ge (by omega) (by omega)) (zy_first h7 (fun od' hr => ?_))
    dsimp only
    refine ⟨_, zy_id21 I (by omega) l (zn_id n) od' ws os hch hok hr (fun od2 ws2 os2 => ?_)⟩
    have h := ih (k + 1) od2 ws2 os2 (by omega)
    rw [zs_s] at h
    unfold wY_idle_45
    generalize (zn_id n :: l).all (zy_f n c lo hi k) = b at h ⊢
    cases b
    · exact br_t rfl (nm_r (nI_1 k) h)
    · exact br_f (by decide) (nm_r (nI_1 _) (nm_r (nI_1 k) h))
theorem zy_idle {post : Int32 → SY → Prop} (I : zx_I n c lo hi al ah) {l : List (List Nat)} (hch : zn_ch n (zn_id n :: l)) (hok : ∀ q, q ∈ zn_id n :: l → zn_ok n q = true) (H : ∀ od ws os, post (nI (zs_s (fun k => ((zn_id n :: l).all (zy_f n c lo hi k)).toNat) c)) (nI n, nI c, al, ah, gi, od, ws, os, la)) : wpY_idle post (nI n, nI c, al, ah, gi, od, ws, os, la) := ⟨_, zy_idle4 I hch hok H c 0 od ws os (by omega)⟩
end
end
section
/-! the two sides' values agree -/
theorem zz_soc {n : Nat} {f f' : Nat → Nat} (h : ∀ x, x < n → f x = f' x) : zc_so n f = zc_so n f' := by
  unfold zc_so
  rw [decide_eq_decide]
  exact ⟨fun q x hx => by rw [← h x hx]; exact q x hx, fun q x hx => by rw [h x hx]; exact q x hx⟩
theorem zz_f7 {n : Nat} (h : n ≤ 7) : zw_f n ≤ 5040 := by
  have h1 : n = 0 ∨ n = 1 ∨ n = 2 ∨ n = 3 ∨ n = 4 ∨ n = 5 ∨ n = 6 ∨ n = 7 := by omega
  rcases h1 with e | e | e | e | e | e | e | e <;> rw [e] <;> decide
section
variable {n c : Nat} {lo hi : Nat → Nat} {L : List (List Nat)}
theorem zz_so (hc : zc_hc n c lo hi) (hok : ∀ q, q ∈ L → zn_ok n q = true) (hp : (L.map (zn_w n)).Perm (zw_W n n)) : zl_s (fun q => if zc_so n (zt_ps lo hi zp_no c (zn_F q)) then 1 else 0) L = zl_s (fun w => if zc_so n (zt_ps lo hi zp_no c (zt_P w)) then 1 else 0) (zw_W n n) :=
  zn_tr hok hp (fun f => if zc_so n (zt_ps lo hi zp_no c f) then 1 else 0) (fun f f' h => by rw [zz_soc (zt_cong zp_no h (zc_h2 hc))])
theorem zz_sorted (hc : zc_hc n c lo hi) (hok : ∀ q, q ∈ L → zn_ok n q = true) (hp : (L.map (zn_w n)).Perm (zw_W n n)) : zl_s (fun q => if zc_so n (zt_ps lo hi zp_no c (zn_F q)) then 1 else 0) L = zx_CH n (zc_good n c lo hi zp_no) (2 ^ n - 1) := by
  rw [zz_so hc hok hp, zc_sorted zp_no hc]
  unfold zx_CH
  rw [zc_pcf]
theorem zz_sorts (h7 : n ≤ 7) (hc : zc_hc n c lo hi) (hok : ∀ q, q ∈ L → zn_ok n q = true) (hp : (L.map (zn_w n)).Perm (zw_W n n)) : nI (zl_s (fun q => if zc_so n (zt_ps lo hi zp_no c (zn_F q)) then 1 else 0) L) = nI (zw_f n) ↔ zx_all (zc_good n c lo hi zp_no) (2 ^ n) = true := by
  have hf := zz_f7 h7
  have hle := zl_le (fun w => zc_so n (zt_ps lo hi zp_no c (zt_P w))) (zw_W n n)
  rw [zw_len] at hle
  rw [zz_so hc hok hp, nI_eq (by omega) (by omega), zc_sorts zp_no hc, zx_all_iff]
theorem zz_ranks (hc : zc_hc n c lo hi) (hok : ∀ q, q ∈ L → zn_ok n q = true) (hp : (L.map (zn_w n)).Perm (zw_W n n)) {v r : Nat} (hv : v < n) (h1 : 1 ≤ r) (h2 : r ≤ n) : zl_s (fun q => if zt_ps lo hi zp_no c (zn_F q) v = r then 1 else 0) L = zs_s (fun s => zs_s (fun x => if s.testBit x then 0 else zc_Qr n c lo hi zp_no v r s x * (zw_f (zw_pc n s) * zw_f (n - 1 - zw_pc n s))) n) (2 ^ n) := by
  rw [← zc_ranks zp_no hc hv h1 h2]
  exact zn_tr hok hp (fun f => if zt_ps lo hi zp_no c f v = r then 1 else 0) (fun f f' h => by
    rw [zt_cong zp_no h (zc_h2 hc) v hv])
theorem zz_less {m : Nat} (hc : zc_hc n m lo hi) (hok : ∀ q, q ∈ L → zn_ok n q = true) (hp : (L.map (zn_w n)).Perm (zw_W n n)) {v u : Nat} (hv : v < n) (hu : u < n) : zl_s (fun q => if zt_ps lo hi zp_no m (zn_F q) v < zt_ps lo hi zp_no m (zn_F q) u then 1 else 0) L = zs_s (fun s => zs_s (fun x => if s.testBit x then 0 else zc_Ql m lo hi zp_no v u s x * (zw_f (zw_pc n s) * zw_f (n - 1 - zw_pc n s))) n) (2 ^ n) := by
  rw [← zc_less zp_no hc hv hu]
  exact zn_tr hok hp (fun f => if zt_ps lo hi zp_no m f v < zt_ps lo hi zp_no m f u then 1 else 0) (fun f f' h => by
    rw [zt_cong zp_no h (zc_h2 hc) v hv, zt_cong zp_no h (zc_h2 hc) u hu])
theorem zz_idle (hc : zc_hc n c lo hi) (hok : ∀ q, q ∈ L → zn_ok n q = true) (hp : (L.map (zn_w n)).Perm (zw_W n n)) (k : Nat) : L.all (zy_f n c lo hi k) = zx_id n c lo hi k := by
  rw [Bool.eq_iff_iff, List.all_eq_true]
  unfold zx_id
  rw [zx_all_iff]
  have h1 := zn_trA hok hp (fun f => ∀ x, x < n → zt_ps lo hi zp_no c f x = zt_ps lo hi (zx_skk k) c f x) (fun f f' h q x hx => by
    rw [← zt_cong zp_no h (zc_h2 hc) x hx, ← zt_cong (zx_skk k) h (zc_h2 hc) x hx]
    exact q x hx)
  have h2 := zc_idle zp_no hc (zx_skk k)
  constructor
  · intro h s hs
    rw [beq_iff_eq]
    exact ((h2.mp (h1.mp (fun p hm => of_decide_eq_true (h p hm)))) s hs).symm
  · intro h p hm
    exact decide_eq_true ((h1.mpr (h2.mpr (fun s hs => (beq_iff_eq.mp (h s hs)).symm))) p hm)
theorem zz_idles (hc : zc_hc n c lo hi) (hok : ∀ q, q ∈ L → zn_ok n q = true) (hp : (L.map (zn_w n)).Perm (zw_W n n)) : zs_s (fun k => (L.all (zy_f n c lo hi k)).toNat) c = zs_s (fun k => (zx_id n c lo hi k).toNat) c :=
  zs_congr (fun k _ => by rw [zz_idle hc hok hp k])
end
end
section
/-! the relation and what is owed -/
def zz_F (n c : Nat) (al ah pr : Nat → Int32) : Prop := (2 ≤ n ∧ n ≤ 7 ∧ c ≤ 24) ∧ zx_G n al ∧ zx_G n ah ∧ (∀ k, k < c → al k ≠ ah k) ∧ (∀ k, k < 8 → pr k = nI (zw_f k))
/-- the same wires, comparators and inputs; low and high are wires, not the same one below count; products are factorials -/
def i_Rel (_ : Nat) (u : SX) (v : SY) : Prop := ∃ (n c : Nat) (al ah gi wi be wh ch ro pr od ws os la : Nat → Int32), zz_F n c al ah pr ∧ u = (nI n, nI c, al, ah, gi, wi, be, wh, ch, ro, pr) ∧ v = (nI n, nI c, al, ah, gi, od, ws, os, la)
theorem zz_el {P : SX → SY → Prop} {k : Nat} {u : SX} {v : SY} (h : ∀ (n c : Nat) (al ah gi wi be wh ch ro pr od ws os la : Nat → Int32), zz_F n c al ah pr → P (nI n, nI c, al, ah, gi, wi, be, wh, ch, ro, pr) (nI n, nI c, al, ah, gi, od, ws, os, la)) (I : i_Rel k u v) : P u v := by
  obtain ⟨n, c, al, ah, gi, wi, be, wh, ch, ro, pr, od, ws, os, la, f, e1, e2⟩ := I
  rw [e1, e2]
  exact h n c al ah gi wi be wh ch ro pr od ws os la f
theorem zz_mk {k n c : Nat} {al ah gi wi be wh ch ro pr od ws os la : Nat → Int32} (f : zz_F n c al ah pr) : i_Rel k (nI n, nI c, al, ah, gi, wi, be, wh, ch, ro, pr) (nI n, nI c, al, ah, gi, od, ws, os, la) := ⟨n, c, al, ah, gi, wi, be, wh, ch, ro, pr, od, ws, os, la, f, rfl, rfl⟩
theorem zz_I {n c : Nat} {al ah pr : Nat → Int32} (f : zz_F n c al ah pr) : zx_I n c (zx_l al) (zx_l ah) al ah :=
  ⟨f.1, fun k => (zx_lG f.1.2.1 f.2.1 k).1, fun k => (zx_lG f.1.2.1 f.2.2.1 k).1, fun k => (zx_lG f.1.2.1 f.2.1 k).2, fun k => (zx_lG f.1.2.1 f.2.2.1 k).2⟩
theorem zz_hc {n c : Nat} {al ah pr : Nat → Int32} (f : zz_F n c al ah pr) : zc_hc n c (zx_l al) (zx_l ah) := by
  intro k hk
  have h1 := zx_lG f.1.2.1 f.2.1 k
  have h2 := zx_lG f.1.2.1 f.2.2.1 k
  refine ⟨h1.2, h2.2, fun q => f.2.2.2.1 k hk ?_⟩
  rw [h1.1, h2.1, q]
theorem zz_lt {v : Int32} {c : Nat} (hc : c ≤ 24) (h0 : ¬ v < 0) (h : v < nI c - 1) : ∃ k, v = nI k ∧ k + 1 < c := by
  obtain ⟨k, hk, rfl⟩ := nI_of h0
  refine ⟨k, rfl, ?_⟩
  cases c with
  | zero =>
    have h1 : nI 0 - 1 < 0 := by decide
    exact absurd (Int32.lt_trans h h1) h0
  | succ m =>
    rw [nI_pred, nI_ltI hk (by omega)] at h
    omega
theorem i_up {k : Nat} {u : SX} {v : SY} (h : i_Rel k u v) : i_Rel (k + 3) u v := h
theorem zz_init {post : SY → Prop} (n : Nat) (p0 : Int32) (h : (¬ 2 ≤ p0 ∧ n = 2) ∨ (2 ≤ p0 ∧ p0 ≤ 7 ∧ p0 = nI n) ∨ (2 ≤ p0 ∧ ¬ p0 ≤ 7 ∧ n = 7)) (H : post (nI n, 0, (fun _ => 0), (fun _ => 0), (fun _ => 0), (fun _ => 0), (fun _ => 0), (fun _ => 0), (fun _ => 0))) : wpY_init post p0 := by
  rcases h with ⟨h1, rfl⟩ | ⟨h1, h2, rfl⟩ | ⟨h1, h2, rfl⟩
  · exact br_f h1 H
  · exact br_t h1 (br_t h2 H)
  · exact br_t h1 (br_f h2 H)
theorem i_vc0 (k0 : Int32) : wpX_init (fun u => wpY_init (fun v => i_Rel 1 u v) k0) k0 := by
  have hn : ∃ n, (2 ≤ n ∧ n ≤ 7) ∧ ((¬ 2 ≤ k0 ∧ n = 2) ∨ (2 ≤ k0 ∧ k0 ≤ 7 ∧ k0 = nI n) ∨ (2 ≤ k0 ∧ ¬ k0 ≤ 7 ∧ n = 7)) := by
    by_cases h1 : 2 ≤ k0
    · by_cases h2 : k0 ≤ 7
      · have h0 : ¬ k0 < 0 := Int32.not_lt.mpr (Int32.le_trans (by decide) h1)
        obtain ⟨j, hj, rfl⟩ := nI_of h0
        have a := (nI_leI (a := 2) (by omega) hj).mp h1
        have b := (nI_leI (b := 7) hj (by omega)).mp h2
        exact ⟨j, ⟨a, b⟩, Or.inr (Or.inl ⟨h1, h2, rfl⟩)⟩
      · exact ⟨7, by omega, Or.inr (Or.inr ⟨h1, h2, rfl⟩)⟩
    · exact ⟨2, by omega, Or.inl ⟨h1, rfl⟩⟩
  obtain ⟨n, ⟨a, b⟩, h⟩ := hn
  refine zx_init n k0 h (zz_init n k0 h (zz_mk (n := n) (c := 0) ⟨⟨a, b, by omega⟩, fun _ => ⟨0, by omega, rfl⟩, fun _ => ⟨0, by omega, rfl⟩, fun k hk => absurd hk (Nat.not_lt_zero k), fun k hk => zx_cpl hk⟩))
theorem i_vc_add {k : Nat} {u : SX} {v : SY} (I : i_Rel k u v) (hk : k + 3 ≤ 1537) (v1 : Int32) (v2 : Int32) : wpX_add (fun r u' => wpY_add (fun r' v' => r' = r ∧ i_Rel (k + 3) u' v') v v1 v2) u v1 v2 := by
  refine zz_el (P := fun u v => wpX_add (fun r u' => wpY_add (fun r' v' => r' = r ∧ i_Rel (k + 3) u' v') v v1 v2) u v1 v2) ?_ I
  intro n c al ah gi wi be wh ch ro pr od ws os la f
  have h7 := f.1.2.1
  have hc := f.1.2.2
  rcases pk_ix v1 (n := n) (by omega) with h | h | ⟨i, hi, rfl⟩
  · exact zx_add1 (Or.inl h) (zy_add1 (Or.inl h) ⟨rfl, zz_mk f⟩)
  · exact zx_add1 (Or.inr h) (zy_add1 (Or.inr h) ⟨rfl, zz_mk f⟩)
  · rcases pk_ix v2 (n := n) (by omega) with h | h | ⟨j, hj, rfl⟩
    · exact zx_add2 h7 hi (Or.inl h) (zy_add2 h7 hi (Or.inl h) ⟨rfl, zz_mk f⟩)
    · exact zx_add2 h7 hi (Or.inr h) (zy_add2 h7 hi (Or.inr h) ⟨rfl, zz_mk f⟩)
    · by_cases hij : i = j
      · subst hij
        exact zx_add3 h7 hi (zy_add3 h7 hi ⟨rfl, zz_mk f⟩)
      · by_cases h24 : c = 24
        · subst h24
          exact zx_add4 h7 hi hj hij (zy_add4 h7 hi hj hij ⟨rfl, zz_mk f⟩)
        · refine zx_add5 h7 hi hj hij (by omega) (zy_add5 h7 hi hj hij (by omega) ⟨rfl, zz_mk ⟨⟨f.1.1, h7, by omega⟩, zx_Gu f.2.1 c ⟨i, hi, rfl⟩, zx_Gu f.2.2.1 c ⟨j, hj, rfl⟩, ?_, f.2.2.2.2⟩⟩)
          intro q hq
          by_cases e : q = c
          · rw [e, pk_us, pk_us]
            exact fun z => hij ((nI_eq (by omega) (by omega)).mp z)
          · rw [pk_un e, pk_un e]
            exact f.2.2.2.1 q (by omega)
theorem i_vc_drop {k : Nat} {u : SX} {v : SY} (I : i_Rel k u v) (hk : k + 3 ≤ 1537) (v1 : Int32) : wpX_drop (fun r u' => wpY_drop (fun r' v' => r' = r ∧ i_Rel (k + 3) u' v') v v1) u v1 := by
  refine zz_el (P := fun u v => wpX_drop (fun r u' => wpY_drop (fun r' v' => r' = r ∧ i_Rel (k + 3) u' v') v v1) u v1) ?_ I
  intro n c al ah gi wi be wh ch ro pr od ws os la f
  have h7 := f.1.2.1
  have hc := f.1.2.2
  rcases pk_ix v1 (n := c) (by omega) with h | h | ⟨i, hi, rfl⟩
  · exact zx_drop0 (Or.inl h) (zy_drop0 (Or.inl h) ⟨rfl, zz_mk f⟩)
  · exact zx_drop0 (Or.inr h) (zy_drop0 (Or.inr h) ⟨rfl, zz_mk f⟩)
  · refine zx_drop1 h7 hc f.2.1 f.2.2.1 hi (zy_drop1 hc hi ⟨rfl, zz_mk ⟨⟨f.1.1, h7, by omega⟩, zx_drG _ _ f.2.1, zx_drG _ _ f.2.2.1, ?_, f.2.2.2.2⟩⟩)
    intro q hq
    rw [zx_drv, zx_drv]
    by_cases e : i ≤ q ∧ q < i + (c - 1 - i)
    · rw [if_pos e, if_pos e]
      exact f.2.2.2.1 (q + 1) (by omega)
    · rw [if_neg e, if_neg e]
      exact f.2.2.2.1 q (by omega)
theorem i_vc_swap {k : Nat} {u : SX} {v : SY} (I : i_Rel k u v) (hk : k + 3 ≤ 1537) (v1 : Int32) : wpX_swap (fun r u' => wpY_swap (fun r' v' => r' = r ∧ i_Rel (k + 3) u' v') v v1) u v1 := by
  refine zz_el (P := fun u v => wpX_swap (fun r u' => wpY_swap (fun r' v' => r' = r ∧ i_Rel (k + 3) u' v') v v1) u v1) ?_ I
  intro n c al ah gi wi be wh ch ro pr od ws os la f
  have h7 := f.1.2.1
  have hc := f.1.2.2
  by_cases h0 : v1 < 0
  · exact zx_swap0 (Or.inl h0) (zy_swap0 (Or.inl h0) ⟨rfl, zz_mk f⟩)
  · by_cases h1 : v1 < nI c - 1
    · obtain ⟨i, rfl, hi⟩ := zz_lt hc h0 h1
      refine zx_swap1 h7 hc f.2.1 f.2.2.1 hi h1 (zy_swap1 hc hi h1 ⟨rfl, zz_mk ⟨f.1, zx_Gu (zx_Gu f.2.1 _ (f.2.1 _)) _ (f.2.1 _), zx_Gu (zx_Gu f.2.2.1 _ (f.2.2.1 _)) _ (f.2.2.1 _), ?_, f.2.2.2.2⟩⟩)
      intro q hq
      by_cases e : q = i + 1
      · rw [e, pk_us, pk_us]
        exact f.2.2.2.1 i (by omega)
      · rw [pk_un e, pk_un e]
        by_cases e2 : q = i
        · rw [e2, pk_us, pk_us]
          exact f.2.2.2.1 (i + 1) (by omega)
        · rw [pk_un e2, pk_un e2]
          exact f.2.2.2.1 q hq
    · exact zx_swap0 (Or.inr h1) (zy_swap0 (Or.inr h1) ⟨rfl, zz_mk f⟩)
theorem i_vc_turn {k : Nat} {u : SX} {v : SY} (I : i_Rel k u v) (hk : k + 3 ≤ 1537) : wpX_turn (fun r u' => wpY_turn (fun r' v' => r' = r ∧ i_Rel (k + 3) u' v') v) u := by
  refine zz_el (P := fun u v => wpX_turn (fun r u' => wpY_turn (fun r' v' => r' = r ∧ i_Rel (k + 3) u' v') v) u) ?_ I
  intro n c al ah gi wi be wh ch ro pr od ws os la f
  have h2 := f.1.1
  have h7 := f.1.2.1
  have hc := f.1.2.2
  refine zx_turn h2 h7 hc f.2.1 f.2.2.1 (zy_turn hc ⟨rfl, zz_mk ⟨f.1, ?_, ?_, ?_, f.2.2.2.2⟩⟩)
  · intro q
    by_cases e : q < c
    · rw [zx_cpl e]; exact zx_tv h2 h7 f.2.2.1 q
    · rw [zx_cpg (by omega)]; exact f.2.1 q
  · intro q
    by_cases e : q < c
    · rw [zx_cpl e]; exact zx_tv h2 h7 f.2.1 q
    · rw [zx_cpg (by omega)]; exact f.2.2.1 q
  · intro q hq
    rw [zx_cpl hq, zx_cpl hq]
    obtain ⟨a, ha, ea⟩ := f.2.1 q
    obtain ⟨b, hb, eb⟩ := f.2.2.1 q
    have hne := f.2.2.2.1 q hq
    obtain ⟨m, rfl⟩ : ∃ m, n = m + 1 := ⟨n - 1, by omega⟩
    rw [ea, eb] at hne
    rw [ea, eb, nI_pred, pk_sub (by omega), pk_sub (by omega)]
    intro z
    have z2 := (nI_eq (by omega) (by omega)).mp z
    have z3 : a = b := by omega
    exact hne (by rw [z3])
theorem i_vc_size {k : Nat} {u : SX} {v : SY} (I : i_Rel k u v) (hk : k + 3 ≤ 1537) : wpX_size (fun r => wpY_size (fun r' => r' = r ∧ i_Rel (k + 3) u v) v) u := by
  refine zz_el (P := fun u v => wpX_size (fun r => wpY_size (fun r' => r' = r ∧ i_Rel (k + 3) u v) v) u) ?_ I
  intro n c al ah gi wi be wh ch ro pr od ws os la f
  exact And.intro rfl (zz_mk f)
theorem i_vc_input {k : Nat} {u : SX} {v : SY} (I : i_Rel k u v) (hk : k + 3 ≤ 1537) (v1 : Int32) (v2 : Int32) : wpX_input (fun r u' => wpY_input (fun r' v' => r' = r ∧ i_Rel (k + 3) u' v') v v1 v2) u v1 v2 := by
  refine zz_el (P := fun u v => wpX_input (fun r u' => wpY_input (fun r' v' => r' = r ∧ i_Rel (k + 3) u' v') v v1 v2) u v1 v2) ?_ I
  intro n c al ah gi wi be wh ch ro pr od ws os la f
  have h7 := f.1.2.1
  rcases pk_ix v1 (n := n) (by omega) with h | h | ⟨i, hi, rfl⟩
  · exact zx_input1 (Or.inl h) (zy_input1 (Or.inl h) ⟨rfl, zz_mk f⟩)
  · exact zx_input1 (Or.inr h) (zy_input1 (Or.inr h) ⟨rfl, zz_mk f⟩)
  · exact zx_input0 h7 hi (zy_input0 h7 hi ⟨rfl, zz_mk f⟩)
theorem zz_cpe {n c : Nat} {al ah pr : Nat → Int32} (f : zz_F n c al ah pr) (gi a b : Nat → Int32) : (∀ x, x < n → zp_ps (zx_l al) (zx_l ah) zp_no c (zx_cp n gi a) x = zp_ps (zx_l al) (zx_l ah) zp_no c (zx_cp n gi b) x) ∧ zp_mv (zx_l al) (zx_l ah) c (zx_cp n gi a) = zp_mv (zx_l al) (zx_l ah) c (zx_cp n gi b) := by
  have hI := zz_I f
  have hall : ∀ m, (∀ x, x < n → zp_ps (zx_l al) (zx_l ah) zp_no m (zx_cp n gi a) x = zp_ps (zx_l al) (zx_l ah) zp_no m (zx_cp n gi b) x) ∧ zp_mv (zx_l al) (zx_l ah) m (zx_cp n gi a) = zp_mv (zx_l al) (zx_l ah) m (zx_cp n gi b) := by
    intro m
    induction m with
    | zero => exact ⟨fun x hx => (zx_cpl hx).trans (zx_cpl hx).symm, rfl⟩
    | succ m ih =>
      obtain ⟨ih1, ih2⟩ := ih
      have b1 := hI.2.2.2.1 m
      have b2 := hI.2.2.2.2 m
      refine ⟨fun x hx => ?_, ?_⟩
      · rw [zp_psn, zp_psn]
        unfold zp_cp
        rw [ih1 _ b1, ih1 _ b2]
        split
        · unfold upd
          rw [ih1 x hx]
        · exact ih1 x hx
      · rw [zp_mv, zp_mv, ih2, ih1 _ b1, ih1 _ b2]
  exact hall c
theorem i_vc_output {k : Nat} {u : SX} {v : SY} (I : i_Rel k u v) (hk : k + 3 ≤ 1537) (v1 : Int32) : wpX_output (fun r u' => wpY_output (fun r' v' => r' = r ∧ i_Rel (k + 3) u' v') v v1) u v1 := by
  refine zz_el (P := fun u v => wpX_output (fun r u' => wpY_output (fun r' v' => r' = r ∧ i_Rel (k + 3) u' v') v v1) u v1) ?_ I
  intro n c al ah gi wi be wh ch ro pr od ws os la f
  have h7 := f.1.2.1
  rcases pk_ix v1 (n := n) (by omega) with h | h | ⟨i, hi, rfl⟩
  · exact zx_output1 (Or.inl h) (zy_output1 (Or.inl h) ⟨rfl, zz_mk f⟩)
  · exact zx_output1 (Or.inr h) (zy_output1 (Or.inr h) ⟨rfl, zz_mk f⟩)
  · exact zx_output0 (zz_I f) hi (zy_output0 (zz_I f) hi ⟨(zz_cpe f gi ws wi).1 i hi, zz_mk f⟩)
theorem i_vc_exchanges {k : Nat} {u : SX} {v : SY} (I : i_Rel k u v) (hk : k + 3 ≤ 1537) : wpX_exchanges (fun r u' => wpY_exchanges (fun r' v' => r' = r ∧ i_Rel (k + 3) u' v') v) u := by
  refine zz_el (P := fun u v => wpX_exchanges (fun r u' => wpY_exchanges (fun r' v' => r' = r ∧ i_Rel (k + 3) u' v') v) u) ?_ I
  intro n c al ah gi wi be wh ch ro pr od ws os la f
  exact zx_exchanges (zz_I f) (zy_exchanges (zz_I f) ⟨by rw [(zz_cpe f gi ws wi).2], zz_mk f⟩)
theorem i_vc_sorts {k : Nat} {u : SX} {v : SY} (I : i_Rel k u v) (hk : k + 3 ≤ 1537) : wpX_sorts (fun r u' => wpY_sorts (fun r' v' => r' = r ∧ i_Rel (k + 3) u' v') v) u := by
  refine zz_el (P := fun u v => wpX_sorts (fun r u' => wpY_sorts (fun r' v' => r' = r ∧ i_Rel (k + 3) u' v') v) u) ?_ I
  intro n c al ah gi wi be wh ch ro pr od ws os la f
  obtain ⟨l, hch, hok, hp⟩ := zn_sum f.1.1 f.1.2.1
  have e := zz_sorts f.1.2.1 (zz_hc f) hok hp
  refine zx_sorts (zz_I f) (fun be => zy_sorts (zz_I f) hch hok (fun h od ws => ?_) (fun h od ws => ?_))
  · exact ⟨by rw [e.mp h]; rfl, zz_mk f⟩
  · exact ⟨by rw [Bool.eq_false_iff.mpr (fun q => h (e.mpr q))]; rfl, zz_mk f⟩
theorem i_vc_sorted {k : Nat} {u : SX} {v : SY} (I : i_Rel k u v) (hk : k + 3 ≤ 1537) : wpX_sorted (fun r u' => wpY_sorted (fun r' v' => r' = r ∧ i_Rel (k + 3) u' v') v) u := by
  refine zz_el (P := fun u v => wpX_sorted (fun r u' => wpY_sorted (fun r' v' => r' = r ∧ i_Rel (k + 3) u' v') v) u) ?_ I
  intro n c al ah gi wi be wh ch ro pr od ws os la f
  obtain ⟨l, hch, hok, hp⟩ := zn_sum f.1.1 f.1.2.1
  exact zx_sorted (zz_I f) (fun be ch => zy_sorted (zz_I f) hch hok (fun od ws => ⟨by rw [zz_sorted (zz_hc f) hok hp], zz_mk f⟩))
theorem i_vc_ranks {k : Nat} {u : SX} {v : SY} (I : i_Rel k u v) (hk : k + 3 ≤ 1537) (v1 : Int32) (v2 : Int32) : wpX_ranks (fun r u' => wpY_ranks (fun r' v' => r' = r ∧ i_Rel (k + 3) u' v') v v1 v2) u v1 v2 := by
  refine zz_el (P := fun u v => wpX_ranks (fun r u' => wpY_ranks (fun r' v' => r' = r ∧ i_Rel (k + 3) u' v') v v1 v2) u v1 v2) ?_ I
  intro n c al ah gi wi be wh ch ro pr od ws os la f
  have h7 := f.1.2.1
  rcases pk_ix v1 (n := n) (by omega) with h | h | ⟨i, hi, rfl⟩
  · exact zx_ranks1 (Or.inl h) (zy_ranks1 (Or.inl h) ⟨rfl, zz_mk f⟩)
  · exact zx_ranks1 (Or.inr h) (zy_ranks1 (Or.inr h) ⟨rfl, zz_mk f⟩)
  · by_cases h1 : v2 < 1
    · exact zx_ranks2 h7 hi (Or.inl h1) (zy_ranks2 h7 hi (Or.inl h1) ⟨rfl, zz_mk f⟩)
    · by_cases h2 : v2 ≤ nI n
      · have h0 : ¬ v2 < 0 := fun q => h1 (Int32.lt_trans q (by decide))
        obtain ⟨r, hr, rfl⟩ := nI_of h0
        have a : 1 ≤ r := Classical.byContradiction fun q => h1 (nI_lt (b := 1) (by omega) (by omega))
        have b := (nI_leI hr (by omega)).mp h2
        obtain ⟨l, hch, hok, hp⟩ := zn_sum f.1.1 f.1.2.1
        exact zx_ranks0 (zz_I f) f.2.2.2.2 hi a b (fun be => zy_ranks0 (zz_I f) hi a b hch hok (fun od ws => ⟨by rw [zz_ranks (zz_hc f) hok hp hi a b], zz_mk f⟩))
      · exact zx_ranks2 h7 hi (Or.inr h2) (zy_ranks2 h7 hi (Or.inr h2) ⟨rfl, zz_mk f⟩)
theorem i_vc_works {k : Nat} {u : SX} {v : SY} (I : i_Rel k u v) (hk : k + 3 ≤ 1537) (v1 : Int32) : wpX_works (fun r u' => wpY_works (fun r' v' => r' = r ∧ i_Rel (k + 3) u' v') v v1) u v1 := by
  refine zz_el (P := fun u v => wpX_works (fun r u' => wpY_works (fun r' v' => r' = r ∧ i_Rel (k + 3) u' v') v v1) u v1) ?_ I
  intro n c al ah gi wi be wh ch ro pr od ws os la f
  have hc := f.1.2.2
  rcases pk_ix v1 (n := c) (by omega) with h | h | ⟨i, hi, rfl⟩
  · exact zx_works1 (Or.inl h) (zy_works1 (Or.inl h) ⟨rfl, zz_mk f⟩)
  · exact zx_works1 (Or.inr h) (zy_works1 (Or.inr h) ⟨rfl, zz_mk f⟩)
  · obtain ⟨l, hch, hok, hp⟩ := zn_sum f.1.1 f.1.2.1
    have hci : zc_hc n i (zx_l al) (zx_l ah) := fun q hq => zz_hc f q (by omega)
    exact zx_works0 (zz_I f) f.2.2.2.2 hi (fun be => zy_works0 (zz_I f) hi hch hok (fun od ws => ⟨by rw [zz_less hci hok hp ((zz_I f).2.2.2.2 i) ((zz_I f).2.2.2.1 i)], zz_mk f⟩))
theorem i_vc_below {k : Nat} {u : SX} {v : SY} (I : i_Rel k u v) (hk : k + 3 ≤ 1537) (v1 : Int32) (v2 : Int32) : wpX_below (fun r u' => wpY_below (fun r' v' => r' = r ∧ i_Rel (k + 3) u' v') v v1 v2) u v1 v2 := by
  refine zz_el (P := fun u v => wpX_below (fun r u' => wpY_below (fun r' v' => r' = r ∧ i_Rel (k + 3) u' v') v v1 v2) u v1 v2) ?_ I
  intro n c al ah gi wi be wh ch ro pr od ws os la f
  have h7 := f.1.2.1
  rcases pk_ix v1 (n := n) (by omega) with h | h | ⟨i, hi, rfl⟩
  · exact zx_below1 (Or.inl h) (zy_below1 (Or.inl h) ⟨rfl, zz_mk f⟩)
  · exact zx_below1 (Or.inr h) (zy_below1 (Or.inr h) ⟨rfl, zz_mk f⟩)
  · rcases pk_ix v2 (n := n) (by omega) with h | h | ⟨j, hj, rfl⟩
    · exact zx_below2 h7 hi (Or.inl h) (zy_below2 h7 hi (Or.inl h) ⟨rfl, zz_mk f⟩)
    · exact zx_below2 h7 hi (Or.inr h) (zy_below2 h7 hi (Or.inr h) ⟨rfl, zz_mk f⟩)
    · obtain ⟨l, hch, hok, hp⟩ := zn_sum f.1.1 f.1.2.1
      exact zx_below0 (zz_I f) f.2.2.2.2 hi hj (fun be => zy_below0 (zz_I f) hi hj hch hok (fun od ws => ⟨by rw [zz_less (zz_hc f) hok hp hi hj], zz_mk f⟩))
theorem i_vc_idle {k : Nat} {u : SX} {v : SY} (I : i_Rel k u v) (hk : k + 3 ≤ 1537) : wpX_idle (fun r u' => wpY_idle (fun r' v' => r' = r ∧ i_Rel (k + 3) u' v') v) u := by
  refine zz_el (P := fun u v => wpX_idle (fun r u' => wpY_idle (fun r' v' => r' = r ∧ i_Rel (k + 3) u' v') v) u) ?_ I
  intro n c al ah gi wi be wh ch ro pr od ws os la f
  obtain ⟨l, hch, hok, hp⟩ := zn_sum f.1.1 f.1.2.1
  exact zx_idle (zz_I f) (fun be wh => zy_idle (zz_I f) hch hok (fun od ws os => ⟨by rw [zz_idles (zz_hc f) hok hp], zz_mk f⟩))
theorem i_vc_rounds {k : Nat} {u : SX} {v : SY} (I : i_Rel k u v) (hk : k + 3 ≤ 1537) : wpX_rounds (fun r u' => wpY_rounds (fun r' v' => r' = r ∧ i_Rel (k + 3) u' v') v) u := by
  refine zz_el (P := fun u v => wpX_rounds (fun r u' => wpY_rounds (fun r' v' => r' = r ∧ i_Rel (k + 3) u' v') v) u) ?_ I
  intro n c al ah gi wi be wh ch ro pr od ws os la f
  exact zx_rounds (zz_I f) (fun ro => zy_rounds (zz_I f) (fun la => ⟨rfl, zz_mk f⟩))
end
