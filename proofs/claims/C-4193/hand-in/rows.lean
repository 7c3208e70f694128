section
theorem pk_us {f : Nat → Int32} {k : Nat} {x : Int32} : upd f k x k = x := if_pos rfl
theorem pk_un {f : Nat → Int32} {k j : Nat} {x : Int32} (h : j ≠ k) : upd f k x j = f j := if_neg h
theorem pk_sub {a b : Nat} (h : b ≤ a) : nI a - nI b = nI (a - b) := by
  obtain ⟨c, rfl⟩ : ∃ c, a = c + b := ⟨a - b, by omega⟩
  rw [← nI_add, Int32.add_sub_cancel, Nat.add_sub_cancel]
theorem pk_m1 (n : Nat) : nI (n + 1) + (-1) = nI n := by
  rw [← nI_1, Int32.add_assoc, show (1 : Int32) + (-1) = 0 from rfl, Int32.add_zero]
theorem pk_mul (a b : Nat) : nI a * nI b = nI (a * b) := (Int32.ofNat_mul a b).symm
theorem pk_div {a d : Nat} (ha : a < 2 ^ 31) (h0 : 0 < d) (hd : d < 2 ^ 31) : nI a / nI d = nI (a / d) := by
  apply Int32.toInt_inj.mp
  rw [lg_idiv_nonneg (by rw [nI_toInt ha]; omega) (by rw [nI_toInt hd]; omega), nI_toInt ha, nI_toInt hd, nI_toInt (Nat.lt_of_le_of_lt (Nat.div_le_self a d) ha)]
  first | rfl | exact (Int.natCast_ediv _ _).symm
theorem pk_rem {a d : Nat} (ha : a < 2 ^ 31) (h0 : 0 < d) (hd : d < 2 ^ 31) : nI a - nI a / nI d * nI d = nI (a % d) := by
  rw [pk_div ha h0 hd, pk_mul, pk_sub (Nat.div_mul_le_self a d)]
  exact congrArg nI (by have := Nat.div_add_mod' a d; omega)
theorem pk_sub_toInt {a b : Nat} (ha : a < 2 ^ 30) (hb : b < 2 ^ 30) : (nI a - nI b).toInt = (a : Int) - b := by
  rw [Int32.toInt_sub, nI_toInt (by omega), nI_toInt (by omega)]
  exact Int.bmod_eq_of_le (by omega) (by omega)
theorem pk_sneg {a b : Nat} (hb : b < 2 ^ 30) (h : a < b) : nI a - nI b < 0 := by
  rw [Int32.lt_iff_toInt_lt, pk_sub_toInt (by omega) hb, show (0 : Int32).toInt = 0 from by decide]
  omega
theorem pk_ix (x : Int32) {n : Nat} (hn : n < 2 ^ 31) : x < 0 ∨ nI n ≤ x ∨ ∃ j : Nat, j < n ∧ x = nI j := by
  by_cases h : x < 0
  · exact Or.inl h
  · obtain ⟨j, hj, rfl⟩ := nI_of h
    by_cases h2 : j < n
    · exact Or.inr (Or.inr ⟨j, h2, rfl⟩)
    · exact Or.inr (Or.inl (nI_le (by omega) hj))
theorem pk_le {x y : Int32} {A B : Prop} (a b : Nat) (f : a ≤ b → A) (g : b < a → B) (hx : x = nI a := by rfl) (hy : y = nI b := by rfl) (ha : a < 2 ^ 31 := by omega) (hb : b < 2 ^ 31 := by omega) : (x ≤ y → A) ∧ (¬ x ≤ y → B) := by
  subst hx hy
  rw [nI_leI ha hb]
  exact ⟨f, fun z => g (by omega)⟩
theorem pk_lt {x y : Int32} {A B : Prop} (a b : Nat) (f : a < b → A) (g : b ≤ a → B) (hx : x = nI a := by rfl) (hy : y = nI b := by rfl) (ha : a < 2 ^ 31 := by omega) (hb : b < 2 ^ 31 := by omega) : (x < y → A) ∧ (¬ x < y → B) := by
  subst hx hy
  rw [nI_ltI ha hb]
  exact ⟨f, fun z => g (by omega)⟩
theorem pk_eq {x y : Int32} {A B : Prop} (a b : Nat) (f : a = b → A) (g : a ≠ b → B) (hx : x = nI a := by rfl) (hy : y = nI b := by rfl) (ha : a < 2 ^ 31 := by omega) (hb : b < 2 ^ 31 := by omega) : (x = y → A) ∧ (¬ x = y → B) := by
  subst hx hy
  rw [nI_eq ha hb]
  exact ⟨f, g⟩
theorem pk_in {x : Int32} (n N : Nat) (h : n < N) (hx : x = nI n := by rfl) (hN : N < 2 ^ 31 := by omega) : vp_in x N := by
  subst hx
  exact vp_in_nI h hN
theorem pk_cl {x : Int32} (n : Nat) (hx : x = nI n := by rfl) (h : n < 2 ^ 31 := by omega) : x.toNatClampNeg = n := by
  subst hx
  exact nI_clamp h
theorem pk_vb (z : Int32) : vp_nar .byte z.toInt8.toInt32 = z.toInt8.toInt32 := by rw [vp_nar_byte]; simp
theorem pk_least (P : Nat → Prop) (h : ∃ k, P k) : ∃ k, P k ∧ ∀ j, j < k → ¬ P j := by
  obtain ⟨k, hk⟩ := h
  induction k using Nat.strongRecOn with
  | ind k ih =>
    by_cases e : ∃ j, j < k ∧ P j
    · obtain ⟨j, hj, pj⟩ := e
      exact ih j hj pj
    · exact ⟨k, hk, fun j hj pj => e ⟨j, hj, pj⟩⟩
end
section
/-! base: booleans, arrays of naturals, sets as masks below 32 -/
def ra_b (b : Bool) : Int32 := if b = true then 1 else 0
theorem ra_b1 : ra_b true = 1 := if_pos rfl
theorem ra_b0 : ra_b false = 0 := if_neg (by decide)
theorem ra_10 : ¬ (1 : Int32) = 0 := by decide
theorem ra_bz {b : Bool} : ra_b b = 0 ↔ b = false := by
  cases b
  · exact ⟨fun _ => rfl, fun _ => ra_b0⟩
  · exact ⟨fun h => absurd (ra_b1.symm.trans h) ra_10, fun h => absurd h (by decide)⟩
theorem ra_nt {b : Bool} (h : ¬ b = false) : b = true := by cases b <;> first | rfl | exact absurd rfl h
theorem ra_nf {b : Bool} (h : ¬ b = true) : b = false := by cases b <;> first | rfl | exact absurd rfl h
theorem ra_beq {a b : Bool} (h : a = true ↔ b = true) : a = b := by
  cases a <;> cases b <;> first | rfl | exact absurd (h.mp rfl) (by decide) | exact absurd (h.mpr rfl) (by decide)
def ra_f (c : Nat → Nat) : Nat → Int32 := fun j => nI (c j)
def ra_u (c : Nat → Nat) (k v : Nat) : Nat → Nat := fun j => if j = k then v else c j
theorem ra_us {c : Nat → Nat} {k v : Nat} : ra_u c k v k = v := if_pos rfl
theorem ra_un {c : Nat → Nat} {k v j : Nat} (h : j ≠ k) : ra_u c k v j = c j := if_neg h
theorem ra_fu (c : Nat → Nat) (k v : Nat) : upd (ra_f c) k (nI v) = ra_f (ra_u c k v) := by
  funext j
  show (if j = k then nI v else nI (c j)) = nI (if j = k then v else c j)
  by_cases h : j = k
  · rw [if_pos h, if_pos h]
  · rw [if_neg h, if_neg h]
theorem ra_fk {p : Nat → Nat} {k : Nat} (h : k < 2 ^ 31) : ra_f p (nI k).toNatClampNeg = nI (p k) := by rw [nI_clamp h]; rfl
theorem ra_fuk (c : Nat → Nat) {k : Nat} (h : k < 2 ^ 31) (v : Nat) : upd (ra_f c) (nI k).toNatClampNeg (nI v) = ra_f (ra_u c k v) := by rw [nI_clamp h]; exact ra_fu c k v
theorem ra_any (a : Nat → Int32) : ∃ l : Nat → Nat, a = ra_f l :=
  ⟨fun j => (a j).toBitVec.toNat, by
    funext j
    apply Int32.toBitVec_inj.mp
    show (a j).toBitVec = BitVec.ofNat 32 (a j).toBitVec.toNat
    simp⟩
theorem ra_uu (c : Nat → Nat) (k v w : Nat) : ra_u (ra_u c k v) k w = ra_u c k w := by
  funext j
  unfold ra_u
  by_cases h : j = k
  · rw [if_pos h, if_pos h]
  · rw [if_neg h, if_neg h, if_neg h]
theorem ra_ue (c : Nat → Nat) (k : Nat) : ra_u c k (c k) = c := by
  funext j
  unfold ra_u
  by_cases h : j = k
  · rw [if_pos h, h]
  · rw [if_neg h]
theorem ra_f0 : (fun _ => 0 : Nat → Int32) = ra_f (fun _ => 0) := rfl
theorem ra_nb0 : ∀ v, v < 16 → (nI v).toInt8.toInt32 = nI v := by decide +kernel
theorem ra_nb {v : Nat} (h : v < 16) : vp_nar .byte (nI v) = nI v := by rw [vp_nar_byte]; exact ra_nb0 v h
theorem ra_nb2 {v : Nat} (h : v < 16) : vp_nar .byte (nI v).toInt8.toInt32 = nI v := by rw [pk_vb]; exact ra_nb0 v h
/-! masks -/
def ra_rm (S k : Nat) : Nat := S &&& (31 ^^^ 2 ^ k)
def ra_df (S T : Nat) : Nat := S &&& (31 ^^^ T)
theorem ra_bit : ∀ S, S < 32 → ∀ k, k < 5 → (((nI S >>> (nI k &&& 31)) &&& 1) = 0 ↔ S.testBit k = false) := by decide +kernel
theorem ra_orI : ∀ S, S < 32 → ∀ k, k < 5 → nI S ||| ((1 : Int32) <<< (nI k &&& 31)) = nI (S ||| 2 ^ k) := by decide +kernel
theorem ra_rmI : ∀ S, S < 32 → ∀ k, k < 5 → nI S &&& (((1 : Int32) <<< (nI k &&& 31)) ^^^ (-1)) = nI (ra_rm S k) := by decide +kernel
theorem ra_dfI : ∀ S, S < 32 → ∀ T, T < 32 → nI S &&& (nI T ^^^ (-1)) = nI (ra_df S T) := by decide +kernel
theorem ra_andI : ∀ S, S < 32 → ∀ T, T < 32 → nI S &&& nI T = nI (S &&& T) := by decide +kernel
theorem ra_or0 : ∀ S, S < 32 → nI S ||| 0 = nI S := by decide +kernel
theorem ra_or_lt : ∀ S, S < 32 → ∀ k, k < 5 → S ||| 2 ^ k < 32 := by decide +kernel
theorem ra_rm_lt : ∀ S, S < 32 → ∀ k, k < 5 → ra_rm S k < 32 := by decide +kernel
theorem ra_df_lt : ∀ S, S < 32 → ∀ T, T < 32 → ra_df S T < 32 := by decide +kernel
theorem ra_and_lt : ∀ S, S < 32 → ∀ T, T < 32 → S &&& T < 32 := by decide +kernel
theorem ra_or_t (S k j : Nat) : (S ||| 2 ^ k).testBit j = (S.testBit j || decide (k = j)) := by
  rw [Nat.testBit_or, Nat.testBit_two_pow]
theorem ra_rm_t : ∀ S, S < 32 → ∀ k, k < 5 → ∀ j, j < 5 → (ra_rm S k).testBit j = (S.testBit j && !decide (k = j)) := by decide +kernel
theorem ra_df_t : ∀ S, S < 32 → ∀ T, T < 32 → ∀ j, j < 5 → (ra_df S T).testBit j = (S.testBit j && !T.testBit j) := by decide +kernel
theorem ra_and_t (S T j : Nat) : (S &&& T).testBit j = (S.testBit j && T.testBit j) := Nat.testBit_and S T j
theorem ra_ext : ∀ S, S < 32 → ∀ T, T < 32 → (∀ j, j < 5 → S.testBit j = T.testBit j) → S = T := by decide +kernel
theorem ra_df0 : ∀ S, S < 32 → ∀ T, T < 32 → (ra_df S T = 0 ↔ ∀ j, j < 5 → S.testBit j = true → T.testBit j = true) := by decide +kernel
theorem ra_hi {S j : Nat} (h : S < 32) (hj : 5 ≤ j) : S.testBit j = false :=
  Nat.testBit_lt_two_pow (Nat.lt_of_lt_of_le h (Nat.pow_le_pow_right (n := 2) (i := 5) (by decide) hj))
theorem ra_or_gt : ∀ S, S < 32 → ∀ k, k < 5 → S.testBit k = false → S < S ||| 2 ^ k := by decide +kernel
theorem ra_or_ge (S k : Nat) : S ≤ S ||| 2 ^ k := Nat.left_le_or
theorem ra_rm_gt : ∀ S, S < 32 → ∀ k, k < 5 → S.testBit k = true → ra_rm S k < S := by decide +kernel
theorem ra_rm_le : ∀ S, S < 32 → ∀ k, k < 5 → ra_rm S k ≤ S := by decide +kernel
/-! the tasks that are there -/
def ra_t (P : Nat) : Nat → Int32 := fun j => ra_b (P.testBit j)
theorem ra_tk {P k : Nat} (h : k < 2 ^ 31) : ra_t P (nI k).toNatClampNeg = ra_b (P.testBit k) := by rw [nI_clamp h]; rfl
theorem ra_t0 : (fun _ => 0 : Nat → Int32) = ra_t 0 := by
  funext j
  show 0 = ra_b (Nat.testBit 0 j)
  rw [Nat.zero_testBit]; exact ra_b0.symm
theorem ra_vn1 : vp_nar .boolean 1 = 1 := rfl
theorem ra_vn0 : vp_nar .boolean 0 = 0 := rfl
theorem ra_t1 (P : Nat) {k : Nat} (hk : k < 5) : upd (ra_t P) (nI k).toNatClampNeg (vp_nar .boolean 1) = ra_t (P ||| 2 ^ k) := by
  rw [nI_clamp (by omega), ra_vn1]
  funext j
  show (if j = k then 1 else ra_b (P.testBit j)) = ra_b ((P ||| 2 ^ k).testBit j)
  rw [ra_or_t]
  by_cases h : j = k
  · rw [if_pos h, h, decide_eq_true rfl, Bool.or_true]; exact ra_b1.symm
  · rw [if_neg h, decide_eq_false (fun e => h e.symm), Bool.or_false]
theorem ra_t2 {P : Nat} (hP : P < 32) {k : Nat} (hk : k < 5) : upd (ra_t P) (nI k).toNatClampNeg (vp_nar .boolean 0) = ra_t (ra_rm P k) := by
  rw [nI_clamp (by omega), ra_vn0]
  funext j
  show (if j = k then 0 else ra_b (P.testBit j)) = ra_b ((ra_rm P k).testBit j)
  by_cases h : j = k
  · rw [if_pos h, h, ra_rm_t P hP k hk k hk, decide_eq_true rfl, Bool.not_true, Bool.and_false]; exact ra_b0.symm
  · rw [if_neg h]
    by_cases h5 : j < 5
    · rw [ra_rm_t P hP k hk j h5, decide_eq_false (fun e => h e.symm), Bool.not_false, Bool.and_true]
    · rw [ra_hi hP (by omega), ra_hi (ra_rm_lt P hP k hk) (by omega)]
/-! sums over a set, counts -/
def ra_ps (f : Nat → Nat) (S : Nat) : Nat → Nat
  | 0 => 0
  | k + 1 => ra_ps f S k + (if S.testBit k = true then f k else 0)
theorem ra_ps_le {f f' : Nat → Nat} {S : Nat} : ∀ n, (∀ j, j < n → S.testBit j = true → f j ≤ f' j) → ra_ps f S n ≤ ra_ps f' S n := by
  intro n
  induction n with
  | zero => intro _; exact Nat.le_refl _
  | succ n ih =>
    intro h
    have h1 := ih (fun j hj => h j (by omega))
    show ra_ps f S n + (if S.testBit n = true then f n else 0) ≤ ra_ps f' S n + (if S.testBit n = true then f' n else 0)
    by_cases hb : S.testBit n = true
    · have := h n (by omega) hb
      rw [if_pos hb, if_pos hb]; omega
    · rw [if_neg hb, if_neg hb]; omega
theorem ra_ps_eq {f f' : Nat → Nat} {S : Nat} (n : Nat) (h : ∀ j, j < n → S.testBit j = true → f j = f' j) : ra_ps f S n = ra_ps f' S n :=
  Nat.le_antisymm (ra_ps_le n (fun j hj hb => Nat.le_of_eq (h j hj hb))) (ra_ps_le n (fun j hj hb => Nat.le_of_eq (h j hj hb).symm))
theorem ra_ps_b {f : Nat → Nat} {S B : Nat} : ∀ n, (∀ j, j < n → S.testBit j = true → f j ≤ B) → ra_ps f S n ≤ n * B := by
  intro n
  induction n with
  | zero => intro _; exact Nat.zero_le _
  | succ n ih =>
    intro h
    have h1 := ih (fun j hj => h j (by omega))
    show ra_ps f S n + (if S.testBit n = true then f n else 0) ≤ (n + 1) * B
    rw [Nat.succ_mul]
    by_cases hb : S.testBit n = true
    · have := h n (by omega) hb
      rw [if_pos hb]; omega
    · rw [if_neg hb]; omega
theorem ra_ps_u {g : Nat → Nat} {S k : Nat} (hS : S.testBit k = true) : ∀ n, ra_ps (ra_u g k (g k + 1)) S n = ra_ps g S n + (if k < n then 1 else 0) := by
  intro n
  induction n with
  | zero => rfl
  | succ n ih =>
    show ra_ps (ra_u g k (g k + 1)) S n + (if S.testBit n = true then ra_u g k (g k + 1) n else 0) = ra_ps g S n + (if S.testBit n = true then g n else 0) + _
    rw [ih]
    by_cases e : n = k
    · subst e
      rw [if_pos hS, if_pos hS, ra_us, if_neg (Nat.lt_irrefl n), if_pos (Nat.lt_succ_self n)]; omega
    · rw [ra_un e]
      by_cases hk : k < n
      · rw [if_pos hk, if_pos (show k < n + 1 by omega)]; omega
      · rw [if_neg hk, if_neg (show ¬ k < n + 1 by omega)]; rfl
theorem ra_ps_n {g : Nat → Nat} {S k v : Nat} (hS : S.testBit k = false) (n : Nat) : ra_ps (ra_u g k v) S n = ra_ps g S n :=
  ra_ps_eq n (fun j _ hb => ra_un (fun e => by subst e; rw [hS] at hb; exact absurd hb (by decide)))
def ra_cn (P : Nat) : Nat := ra_ps (fun _ => 1) P 5
theorem ra_cn_le : ∀ P, P < 32 → ra_cn P ≤ 5 := by decide +kernel
theorem ra_cn_or : ∀ P, P < 32 → ∀ k, k < 5 → P.testBit k = false → ra_cn (P ||| 2 ^ k) = ra_cn P + 1 := by decide +kernel
theorem ra_cn_rm : ∀ P, P < 32 → ∀ k, k < 5 → P.testBit k = true → ra_cn (ra_rm P k) + 1 = ra_cn P := by decide +kernel
theorem ra_cn_pos : ∀ P, P < 32 → ∀ k, k < 5 → P.testBit k = true → 0 < ra_cn P := by decide +kernel
theorem ra_cn_lt : ∀ P, P < 32 → ∀ k, k < 5 → P.testBit k = false → ra_cn P < 5 := by decide +kernel
theorem ra_cn_0 : ∀ P, P < 32 → ra_cn P = 0 → P = 0 := by decide +kernel
end
section
/-! work of a set, the least time that covers it -/
def rb_w (c p : Nat → Nat) (t j : Nat) : Nat := (t + p j - 1) / p j * c j
def rb_W (c p : Nat → Nat) (S t : Nat) : Nat := ra_ps (rb_w c p t) S 5
theorem rb_w1 : ∀ t, t < 64 → ∀ q, q < 16 → 0 < q → (t + 1 + q - 1) / q = (t + q - 1) / q + (if t % q = 0 then 1 else 0) := by decide +kernel
theorem rb_ws {c p : Nat → Nat} {t j : Nat} (ht : t < 64) (h0 : 0 < p j) (h : p j < 16) : rb_w c p (t + 1) j = rb_w c p t j + (if t % p j = 0 then c j else 0) := by
  unfold rb_w
  rw [rb_w1 t ht (p j) h h0, Nat.add_mul]
  by_cases e : t % p j = 0
  · rw [if_pos e, if_pos e, Nat.one_mul]
  · rw [if_neg e, if_neg e, Nat.zero_mul]
theorem rb_w0 {c p : Nat → Nat} {j : Nat} (h0 : 0 < p j) : rb_w c p 0 j = 0 := by
  unfold rb_w
  rw [Nat.div_eq_of_lt (by omega), Nat.zero_mul]
theorem rb_wk {c p : Nat → Nat} {t j : Nat} (ht : t < p j) : rb_w c p (t + 1) j = c j := by
  unfold rb_w
  have e : (t + 1 + p j - 1) / p j = 1 := by
    apply Nat.div_eq_of_lt_le
    · omega
    · omega
  rw [e, Nat.one_mul]
theorem rb_wm {c p : Nat → Nat} {t t' j : Nat} (h : t ≤ t') : rb_w c p t j ≤ rb_w c p t' j :=
  Nat.mul_le_mul_right _ (Nat.div_le_div_right (by omega))
theorem rb_wb {c p : Nat → Nat} {t j : Nat} (ht : t ≤ 64) (hp : p j ≤ 15) (hc : c j ≤ 15) : rb_w c p t j ≤ 1200 := by
  have h1 : (t + p j - 1) / p j ≤ 79 := Nat.le_trans (Nat.div_le_self _ _) (by omega)
  have h2 := Nat.mul_le_mul h1 hc
  unfold rb_w
  omega
theorem rb_Wm {c p : Nat → Nat} {S t t' : Nat} (h : t ≤ t') : rb_W c p S t ≤ rb_W c p S t' := ra_ps_le 5 (fun _ _ _ => rb_wm h)
def rb_K (S : Nat) (c p : Nat → Nat) : Prop := ∀ j, j < 5 → S.testBit j = true → 1 ≤ p j ∧ p j ≤ 15 ∧ c j ≤ 15
theorem rb_Wb {c p : Nat → Nat} {S t : Nat} (K : rb_K S c p) (ht : t ≤ 64) : rb_W c p S t ≤ 6000 := by
  have := ra_ps_b (f := rb_w c p t) (S := S) (B := 1200) 5 (fun j hj hb => rb_wb ht (K j hj hb).2.1 (K j hj hb).2.2)
  unfold rb_W; omega
def rb_fp (f : Nat → Nat) : Nat → Nat → Nat
  | 0, _ => 0
  | n + 1, t => if f t ≤ t then t else rb_fp f n (t + 1)
theorem rb_fp_s {f : Nat → Nat} {t : Nat} (ht : f t ≤ t) : ∀ n t0, t0 ≤ t → t < t0 + n → (∀ s, t0 ≤ s → s < t → s < f s) → rb_fp f n t0 = t := by
  intro n
  induction n with
  | zero => intro t0 a b _; omega
  | succ n ih =>
    intro t0 a b h
    show (if f t0 ≤ t0 then t0 else rb_fp f n (t0 + 1)) = t
    by_cases e : t0 = t
    · subst e; rw [if_pos ht]
    · have := h t0 (Nat.le_refl _) (by omega)
      rw [if_neg (by omega)]
      exact ih (t0 + 1) (by omega) (by omega) (fun s hs => h s (by omega))
theorem rb_fp_n {f : Nat → Nat} : ∀ n t0, (∀ s, t0 ≤ s → s < t0 + n → s < f s) → rb_fp f n t0 = 0 := by
  intro n
  induction n with
  | zero => intro t0 _; rfl
  | succ n ih =>
    intro t0 h
    show (if f t0 ≤ t0 then t0 else rb_fp f n (t0 + 1)) = 0
    have := h t0 (Nat.le_refl _) (by omega)
    rw [if_neg (by omega)]
    exact ih (t0 + 1) (fun s hs hs2 => h s (by omega) (by omega))
def rb_rsp (c p : Nat → Nat) (k S : Nat) : Nat := rb_fp (fun t => c k + rb_W c p S t) (p k) 1
def rb_ri (t : Nat) : Int32 := if t = 0 then -3 else nI t
theorem rb_ri0 : rb_ri 0 = -3 := if_pos rfl
theorem rb_ris {t : Nat} (h : 0 < t) : rb_ri t = nI t := if_neg (by omega)
theorem rb_rs {c p : Nat → Nat} {k S t : Nat} (h1 : 1 ≤ t) (h2 : t ≤ p k) (h : c k + rb_W c p S t ≤ t) (hb : ∀ s, 1 ≤ s → s < t → s < c k + rb_W c p S s) : rb_rsp c p k S = t :=
  rb_fp_s (f := fun t => c k + rb_W c p S t) h (p k) 1 h1 (by omega) hb
theorem rb_rn {c p : Nat → Nat} {k S : Nat} (hb : ∀ s, 1 ≤ s → s ≤ p k → s < c k + rb_W c p S s) : rb_rsp c p k S = 0 :=
  rb_fp_n (f := fun t => c k + rb_W c p S t) (p k) 1 (fun s a b => hb s a (by omega))
def rb_in (c d p : Nat → Nat) (k S : Nat) : Bool := decide (rb_rsp c p k S ≠ 0) && decide (rb_rsp c p k S ≤ d k)
theorem rb_rle {f : Nat → Nat} : ∀ n t0, rb_fp f n t0 < t0 + n ∨ rb_fp f n t0 = 0 := by
  intro n
  induction n with
  | zero => intro t0; exact Or.inr rfl
  | succ n ih =>
    intro t0
    show (if f t0 ≤ t0 then t0 else rb_fp f n (t0 + 1)) < t0 + (n + 1) ∨ (if f t0 ≤ t0 then t0 else rb_fp f n (t0 + 1)) = 0
    by_cases e : f t0 ≤ t0
    · rw [if_pos e]; exact Or.inl (by omega)
    · rw [if_neg e]
      rcases ih (t0 + 1) with h | h
      · exact Or.inl (by omega)
      · exact Or.inr h
theorem rb_rb (c p : Nat → Nat) (k S : Nat) : rb_rsp c p k S ≤ p k := by
  rcases rb_rle (f := fun t => c k + rb_W c p S t) (p k) 1 with h | h
  · unfold rb_rsp; omega
  · unfold rb_rsp; rw [h]; exact Nat.zero_le _
/-! facts of the tasks and of the order -/
def rb_T (P : Nat) (c d p : Nat → Nat) : Prop := ∀ j, j < 5 → P.testBit j = true → 1 ≤ c j ∧ c j ≤ d j ∧ d j ≤ p j ∧ p j ≤ 15
def rb_s (S P : Nat) : Prop := ∀ j, j < 5 → S.testBit j = true → P.testBit j = true
theorem rb_TK {P : Nat} {c d p : Nat → Nat} {S : Nat} (T : rb_T P c d p) (h : rb_s S P) : rb_K S c p := fun j hj hb => by
  have := T j hj (h j hj hb)
  omega
def rb_O (P m : Nat) (o : Nat → Nat) : Prop := (∀ i, i < m → o i < 5 ∧ P.testBit (o i) = true) ∧ (∀ i j, i < m → j < m → o i = o j → i = j) ∧ (∀ k, k < 5 → P.testBit k = true → ∃ i, i < m ∧ o i = k)
theorem rb_Oc {P m : Nat} {o w : Nat → Nat} (h : rb_O P m o) (e : ∀ i, i < m → w i = o i) : rb_O P m w := by
  refine ⟨fun i hi => by rw [e i hi]; exact h.1 i hi, fun i j hi hj q => h.2.1 i j hi hj (by rw [← e i hi, ← e j hj]; exact q), fun k hk hb => ?_⟩
  obtain ⟨i, hi, q⟩ := h.2.2 k hk hb
  exact ⟨i, hi, by rw [e i hi]; exact q⟩
/-! the set of those ahead of a place -/
def rb_mk (o : Nat → Nat) : Nat → Nat
  | 0 => 0
  | i + 1 => rb_mk o i ||| 2 ^ (o i)
theorem rb_mk_lt {o : Nat → Nat} : ∀ a, (∀ i, i < a → o i < 5) → rb_mk o a < 32 := by
  intro a
  induction a with
  | zero => intro _; show 0 < 32; decide
  | succ a ih => intro h; exact ra_or_lt _ (ih (fun i hi => h i (by omega))) _ (h a (by omega))
theorem rb_mk_t {o : Nat → Nat} {j : Nat} : ∀ a, ((rb_mk o a).testBit j = true ↔ ∃ i, i < a ∧ o i = j) := by
  intro a
  induction a with
  | zero =>
    refine ⟨fun h => ?_, fun h => ?_⟩
    · have h' : Nat.testBit 0 j = true := h
      rw [Nat.zero_testBit] at h'; exact absurd h' (by decide)
    · obtain ⟨i, hi, _⟩ := h; omega
  | succ a ih =>
    show (rb_mk o a ||| 2 ^ (o a)).testBit j = true ↔ _
    rw [ra_or_t, Bool.or_eq_true, ih, decide_eq_true_eq]
    constructor
    · rintro (⟨i, hi, e⟩ | e)
      · exact ⟨i, by omega, e⟩
      · exact ⟨a, by omega, e⟩
    · rintro ⟨i, hi, e⟩
      by_cases h : i = a
      · subst h; exact Or.inr e
      · exact Or.inl ⟨i, by omega, e⟩
theorem rb_mk_c {o w : Nat → Nat} : ∀ a, (∀ i, i < a → w i = o i) → rb_mk w a = rb_mk o a := by
  intro a
  induction a with
  | zero => intro _; rfl
  | succ a ih =>
    intro h
    show rb_mk w a ||| 2 ^ (w a) = rb_mk o a ||| 2 ^ (o a)
    rw [ih (fun i hi => h i (by omega)), h a (by omega)]
theorem rb_mk_s {P m : Nat} {o : Nat → Nat} (h : rb_O P m o) {a : Nat} (ha : a ≤ m) : rb_s (rb_mk o a) P := fun j _ hb => by
  obtain ⟨i, hi, e⟩ := (rb_mk_t a).mp hb
  rw [← e]; exact (h.1 i (by omega)).2
theorem rb_mk_l {P m : Nat} {o : Nat → Nat} (h : rb_O P m o) {a : Nat} (ha : a ≤ m) : rb_mk o a < 32 := rb_mk_lt a (fun i hi => (h.1 i (by omega)).1)
/-! all, some, the mask of a test -/
def rb_al (f : Nat → Bool) : Nat → Bool
  | 0 => true
  | n + 1 => rb_al f n && f n
def rb_ex (f : Nat → Bool) : Nat → Bool
  | 0 => false
  | n + 1 => rb_ex f n || f n
def rb_bs (f : Nat → Bool) : Nat → Nat
  | 0 => 0
  | n + 1 => if f n = true then rb_bs f n ||| 2 ^ n else rb_bs f n
theorem rb_al_t {f : Nat → Bool} : ∀ n, (rb_al f n = true ↔ ∀ i, i < n → f i = true) := by
  intro n
  induction n with
  | zero => exact ⟨fun _ i hi => by omega, fun _ => rfl⟩
  | succ n ih =>
    show (rb_al f n && f n) = true ↔ _
    rw [Bool.and_eq_true, ih]
    constructor
    · rintro ⟨a, b⟩ i hi
      by_cases e : i = n
      · rw [e]; exact b
      · exact a i (by omega)
    · intro h; exact ⟨fun i hi => h i (by omega), h n (by omega)⟩
theorem rb_ex_t {f : Nat → Bool} : ∀ n, (rb_ex f n = true ↔ ∃ i, i < n ∧ f i = true) := by
  intro n
  induction n with
  | zero => exact ⟨fun h => absurd (show false = true from h) (by decide), fun ⟨i, hi, _⟩ => by omega⟩
  | succ n ih =>
    show (rb_ex f n || f n) = true ↔ _
    rw [Bool.or_eq_true, ih]
    constructor
    · rintro (⟨i, hi, e⟩ | e)
      · exact ⟨i, by omega, e⟩
      · exact ⟨n, by omega, e⟩
    · rintro ⟨i, hi, e⟩
      by_cases h : i = n
      · subst h; exact Or.inr e
      · exact Or.inl ⟨i, by omega, e⟩
theorem rb_bs_t {f : Nat → Bool} {j : Nat} : ∀ n, ((rb_bs f n).testBit j = true ↔ j < n ∧ f j = true) := by
  intro n
  induction n with
  | zero =>
    refine ⟨fun h => ?_, fun h => by omega⟩
    have h' : Nat.testBit 0 j = true := h
    rw [Nat.zero_testBit] at h'; exact absurd h' (by decide)
  | succ n ih =>
    show (if f n = true then rb_bs f n ||| 2 ^ n else rb_bs f n).testBit j = true ↔ _
    by_cases h : f n = true
    · rw [if_pos h, ra_or_t, Bool.or_eq_true, ih, decide_eq_true_eq]
      constructor
      · rintro (⟨a, b⟩ | e)
        · exact ⟨by omega, b⟩
        · subst e; exact ⟨by omega, h⟩
      · rintro ⟨a, b⟩
        by_cases e : n = j
        · exact Or.inr e
        · exact Or.inl ⟨by omega, b⟩
    · rw [if_neg h, ih]
      constructor
      · rintro ⟨a, b⟩; exact ⟨by omega, b⟩
      · rintro ⟨a, b⟩
        refine ⟨?_, b⟩
        by_cases e : j = n
        · subst e; exact absurd b h
        · omega
theorem rb_bs_lt {f : Nat → Bool} : ∀ n, n ≤ 5 → rb_bs f n < 32 := by
  intro n
  induction n with
  | zero => intro _; show 0 < 32; decide
  | succ n ih =>
    intro hn
    show (if f n = true then rb_bs f n ||| 2 ^ n else rb_bs f n) < 32
    by_cases h : f n = true
    · rw [if_pos h]; exact ra_or_lt _ (ih (by omega)) n (by omega)
    · rw [if_neg h]; exact ih (by omega)
/-! in time, at its place in a row -/
def rb_tk (g : Nat → Nat → Bool) (w : Nat → Nat) (m k : Nat) : Bool := rb_ex (fun i => decide (w i = k) && g k (rb_mk w i)) m
theorem rb_tk_t {g : Nat → Nat → Bool} {w : Nat → Nat} {m k : Nat} : rb_tk g w m k = true ↔ ∃ i, i < m ∧ w i = k ∧ g k (rb_mk w i) = true := by
  unfold rb_tk
  rw [rb_ex_t]
  constructor
  · rintro ⟨i, hi, e⟩
    rw [Bool.and_eq_true, decide_eq_true_eq] at e
    exact ⟨i, hi, e.1, e.2⟩
  · rintro ⟨i, hi, e, e2⟩
    exact ⟨i, hi, by rw [Bool.and_eq_true, decide_eq_true_eq]; exact ⟨e, e2⟩⟩
theorem rb_tk_a {g : Nat → Nat → Bool} {P m : Nat} {w : Nat → Nat} (h : rb_O P m w) {a : Nat} (ha : a < m) : rb_tk g w m (w a) = g (w a) (rb_mk w a) := by
  apply ra_beq
  rw [rb_tk_t]
  constructor
  · rintro ⟨i, hi, e, e2⟩
    have := h.2.1 i a hi ha e
    subst this; exact e2
  · intro e; exact ⟨a, ha, rfl, e⟩
theorem rb_tk_n {g : Nat → Nat → Bool} {P m : Nat} {w : Nat → Nat} (h : rb_O P m w) {k : Nat} (hk : P.testBit k = false) : rb_tk g w m k = false := by
  apply ra_nf
  intro z
  obtain ⟨i, hi, e, _⟩ := rb_tk_t.mp z
  have := (h.1 i hi).2
  rw [e, hk] at this; exact absurd this (by decide)
theorem rb_tk_c {g : Nat → Nat → Bool} {w o : Nat → Nat} {m : Nat} (e : ∀ i, i < m → w i = o i) (k : Nat) : rb_tk g w m k = rb_tk g o m k := by
  apply ra_beq
  rw [rb_tk_t, rb_tk_t]
  constructor
  · rintro ⟨i, hi, a, b⟩
    exact ⟨i, hi, by rw [← e i hi]; exact a, by rw [← rb_mk_c i (fun j hj => e j (by omega))]; exact b⟩
  · rintro ⟨i, hi, a, b⟩
    exact ⟨i, hi, by rw [e i hi]; exact a, by rw [rb_mk_c i (fun j hj => e j (by omega))]; exact b⟩
def rb_ag (P : Nat) (t : Nat → Bool) : Bool := rb_al (fun k => !P.testBit k || t k) 5
theorem rb_ag_t {P : Nat} {t : Nat → Bool} : rb_ag P t = true ↔ ∀ k, k < 5 → P.testBit k = true → t k = true := by
  unfold rb_ag
  rw [rb_al_t]
  constructor
  · intro h k hk hb
    have := h k hk
    rw [hb] at this; exact this
  · intro h k hk
    cases hb : P.testBit k
    · rfl
    · rw [h k hk hb]; rfl
theorem rb_ag_c {P : Nat} {t t' : Nat → Bool} (e : ∀ k, t k = t' k) : rb_ag P t = rb_ag P t' := by
  rw [show t = t' from funext e]
theorem rb_bs_P {P : Nat} (hP : P < 32) {t : Nat → Bool} (hn : ∀ k, k < 5 → P.testBit k = false → t k = false) : rb_bs t 5 = P ↔ rb_ag P t = true := by
  rw [rb_ag_t]
  constructor
  · intro e k hk hb
    rw [← e] at hb
    exact ((rb_bs_t 5).mp hb).2
  · intro h
    apply ra_ext _ (rb_bs_lt 5 (by omega)) _ hP
    intro j hj
    apply ra_beq
    rw [rb_bs_t]
    constructor
    · rintro ⟨_, b⟩
      cases hb : P.testBit j
      · rw [hn j hj hb] at b; exact absurd b (by decide)
      · rfl
    · intro hb; exact ⟨hj, h j hj hb⟩
end
section
/-! the component's reading methods -/
section
variable {P m : Nat} {c d p o : Nat → Nat} {fp fc : Int32} {ac al ap ao bl am : Nat → Int32}
theorem xa_in {post : Int32 → Prop} {S k : Nat} (hS : S < 32) (hk : k < 5) (h1 : S.testBit k = true → post 1) (h0 : S.testBit k = false → post 0) : wpX_in post (nI S) (nI k) := by
  have e := ra_bit S hS k hk
  exact br_c (fun z => h0 (e.mp z)) (fun z => h1 (ra_nt (fun q => z (e.mpr q))))
theorem xa_has {post : Int32 → Prop} {k : Nat} (hP : P < 32) (hk : k < 5) (h1 : P.testBit k = true → post 1) (h0 : P.testBit k = false → post 0) : wpX_has post (nI P, fc, ac, al, ap, ao, bl, am) (nI k) := by
  have e := ra_bit P hP k hk
  exact br_f (nI_pos (by omega)) (pk_le 5 k (fun h => absurd h (by omega)) (fun _ => br_c (fun z => h0 (e.mp z)) (fun z => h1 (ra_nt (fun q => z (e.mpr q))))))
theorem xa_hasN {post : Int32 → Prop} {x : Int32} (hx : x < 0 ∨ nI 5 ≤ x) (h0 : post 0) : wpX_has post (fp, fc, ac, al, ap, ao, bl, am) x := by
  rcases hx with h | h
  · exact br_t h h0
  · exact br_c (fun _ => h0) (fun _ => br_t h h0)
theorem xa_pl2 {post : Int32 → Prop} {a k : Nat} (hm : m ≤ 5) (ho : ∀ i, i < m → o i < 5) (hk : k < 5) (ha : a < m) (he : o a = k) (hf : ∀ i, i < a → o i ≠ k) (hp : post (nI a)) :
    ∀ n i, i ≤ a → a - i < n → wX_placeOf_2 post (nI k) fp (nI m) ac al ap (ra_f o) bl am n (nI i) := by
  intro n
  induction n with
  | zero => intro i _ h; omega
  | succ n ih =>
    intro i hi hn
    refine pk_le (m - 1) i (fun h => ?_) (fun h => ⟨vp_in_nI (by omega) (by omega), pk_eq (o i) k (fun e => ?_) (fun e => nm_r (nI_1 i) ?_) (ra_fk (by omega)) rfl ?_ ?_⟩) (pk_sub (b := 1) (by omega)) rfl (by omega) (by omega)
    · have e : i = a := by omega
      rw [e]; exact hp
    · have e2 : i = a := by
        by_cases z : i < a
        · exact absurd e (hf i z)
        · omega
      rw [e2]; exact hp
    · refine ih (i + 1) ?_ ?_
      · by_cases z : i = a
        · rw [z] at e; exact absurd he e
        · omega
      · by_cases z : i = a
        · rw [z] at e; exact absurd he e
        · omega
    · have := ho i (by omega); omega
    · omega
theorem xa_pl {post : Int32 → Prop} {a k : Nat} (hm : m ≤ 5) (ho : ∀ i, i < m → o i < 5) (hk : k < 5) (ha : a < m) (he : o a = k) (hf : ∀ i, i < a → o i ≠ k) (hp : post (nI a)) :
    wpX_placeOf post (fp, nI m, ac, al, ap, ra_f o, bl, am) (nI k) :=
  ⟨a + 1, xa_pl2 hm ho hk ha he hf hp (a + 1) 0 (by omega) (by omega)⟩
theorem xa_mu11 {post : Int32 → Prop} {a : Nat} (hm : m ≤ 5) (ha : a ≤ m) (ho : ∀ i, i < m → o i < 5) (hp : post (nI (rb_mk o a))) :
    ∀ n i, i ≤ a → a - i < n → wX_moreUrgent_11 post (nI a) fp fc ac al ap (ra_f o) bl am n (nI (rb_mk o i)) (nI i) := by
  intro n
  induction n with
  | zero => intro i _ h; omega
  | succ n ih =>
    intro i hi hn
    refine pk_le a i (fun h => ?_) (fun h => ⟨vp_in_nI (by omega) (by omega), nm_r (e' := nI (rb_mk o (i + 1))) ?_ (nm_r (nI_1 i) (ih (i + 1) (by omega) (by omega)))⟩) rfl rfl (by omega) (by omega)
    · have e : i = a := by omega
      rw [e]; exact hp
    · rw [ra_fk (by omega)]
      exact ra_orI _ (rb_mk_lt i (fun j hj => ho j (by omega))) _ (ho i (by omega))
theorem xa_mu {post : Int32 → Prop} {a k : Nat} (hm : m ≤ 5) (ho : ∀ i, i < m → o i < 5) (hk : k < 5) (ha : a < m) (he : o a = k) (hf : ∀ i, i < a → o i ≠ k) (hp : post (nI (rb_mk o a))) :
    wpX_moreUrgent post (fp, nI m, ac, al, ap, ra_f o, bl, am) (nI k) :=
  xa_pl hm ho hk ha he hf ⟨a + 1, xa_mu11 hm (by omega) ho hp (a + 1) 0 (by omega) (by omega)⟩
theorem xa_w41 {post : Int32 → Prop} {J : Int32 → Int32 → Prop} {x1 z0 : Int32} {t s k q : Nat} (hz : z0 = nI q) (h0 : 0 < q) (hq : q < 16) (ht : t ≤ 64) (hk : k < 5)
    (h : J (nI (s + (t + q - 1) / q * c k)) (nI (k + 1))) : wX_workIn_41 post J x1 (nI t) (nI s) (nI k) z0 fp fc (ra_f c) al ap ao bl am := by
  subst hz
  refine ⟨nI_ne0 h0 (by omega), vp_in_nI hk (by omega), nm_r (e' := nI (s + (t + q - 1) / q * c k)) ?_ (nm_r (nI_1 k) h)⟩
  have e1 : nI (t + q) - 1 = nI (t + q - 1) := pk_sub (b := 1) (by omega)
  rw [ra_fk (by omega), nI_add, e1, pk_div (by omega) h0 (by omega), pk_mul, nI_add]
theorem xa_w5 {post : Int32 → Prop} {S t : Nat} (hS : S < 32) (K : rb_K S c p) (ht : t ≤ 64) (hp : post (nI (rb_W c p S t))) :
    ∀ n k, k ≤ 5 → 5 - k < n → wX_workIn_5 post (nI S) (nI t) fp fc (ra_f c) al (ra_f p) ao bl am n (nI (ra_ps (rb_w c p t) S k)) (nI k) := by
  intro n
  induction n with
  | zero => intro k _ h; omega
  | succ n ih =>
    intro k hk hn
    refine pk_le 5 k (fun h => ?_) (fun h => xa_in hS (by omega) (fun hb => br_f ra_10 ⟨vp_in_nI (by omega) (by omega), pk_le (p k) 0 (fun z => ?_) (fun z => ⟨vp_in_nI (by omega) (by omega), ?_⟩) (ra_fk (by omega)) rfl ?_ (by omega)⟩) (fun hb => br_t rfl (nm_r (nI_1 k) ?_))) rfl rfl (by omega) (by omega)
    · have e : k = 5 := by omega
      rw [e]; exact hp
    · have := (K k (by omega) hb).1; omega
    · have := K k (by omega) hb
      refine xa_w41 (q := p k) (ra_fk (by omega)) (by omega) (by omega) ht (by omega) ?_
      have e : ra_ps (rb_w c p t) S (k + 1) = ra_ps (rb_w c p t) S k + (t + p k - 1) / p k * c k := by
        show ra_ps (rb_w c p t) S k + (if S.testBit k = true then rb_w c p t k else 0) = _
        rw [if_pos hb]; rfl
      rw [← e]
      exact ih (k + 1) (by omega) (by omega)
    · have := (K k (by omega) hb).2.1; omega
    · have e : ra_ps (rb_w c p t) S (k + 1) = ra_ps (rb_w c p t) S k := by
        show ra_ps (rb_w c p t) S k + (if S.testBit k = true then rb_w c p t k else 0) = _
        rw [if_neg (by rw [hb]; decide)]; rfl
      rw [← e]
      exact ih (k + 1) (by omega) (by omega)
theorem xa_work {post : Int32 → Prop} {S t : Nat} (hS : S < 32) (K : rb_K S c p) (ht : t ≤ 64) (hp : post (nI (rb_W c p S t))) :
    wpX_workIn post (fp, fc, ra_f c, al, ra_f p, ao, bl, am) (nI S) (nI t) :=
  ⟨6, xa_w5 hS K ht hp 6 0 (by omega) (by omega)⟩
theorem xa_ru10 {post : Int32 → Prop} {S k : Nat} (hS : S < 32) (K : rb_K S c p) (hk : k < 5) (hc : c k ≤ p k) (hq : p k ≤ 15) (hp : post (rb_ri (rb_rsp c p k S))) :
    ∀ n t r, 1 ≤ t → t ≤ p k → r + 1 ≤ t → p k - t < n → (∀ s, 1 ≤ s → s < t → s < c k + rb_W c p S s) → t ≤ c k + rb_W c p S t →
      wX_responseUnder_10 post (nI k) (nI S) fp fc (ra_f c) al (ra_f p) ao bl am n (nI t) (nI r) := by
  intro n
  induction n with
  | zero => intro t r _ _ _ h; omega
  | succ n ih =>
    intro t r h1 h2 h3 hn hb hle
    have hW := rb_Wb K (t := t) (by omega)
    refine pk_lt 15 r (fun h => absurd h (by omega)) (fun _ => ⟨vp_in_nI hk (by omega), xa_work hS K (by omega) (nm_r (e' := nI (c k + rb_W c p S t)) (by rw [ra_fk (by omega), nI_add]) (pk_eq (c k + rb_W c p S t) t (fun e => ?_) (fun e => ⟨vp_in_nI hk (by omega), pk_le (c k + rb_W c p S t) (p k) (fun h => nm_r (nI_1 r) ?_) (fun h => ?_) rfl (ra_fk (by omega)) (by omega) (by omega)⟩) rfl rfl (by omega) (by omega)))⟩) rfl rfl (by omega) (by omega)
    · rw [rb_rs h1 h2 (by omega) hb, rb_ris (by omega)] at hp; exact hp
    · refine ih _ (r + 1) (by omega) h (by omega) (by omega) (fun s a b => ?_) ?_
      · by_cases z : s < t
        · exact hb s a z
        · have := rb_Wm (c := c) (p := p) (S := S) (t := t) (t' := s) (by omega)
          omega
      · have := rb_Wm (c := c) (p := p) (S := S) (t := t) (t' := c k + rb_W c p S t) hle
        omega
    · rw [rb_rn (fun s a b => ?_), rb_ri0] at hp
      · exact hp
      · by_cases z : s < t
        · exact hb s a z
        · have := rb_Wm (c := c) (p := p) (S := S) (t := t) (t' := s) (by omega)
          omega
theorem xa_ru {post : Int32 → Prop} {S k : Nat} (hS : S < 32) (K : rb_K S c p) (hk : k < 5) (h1 : 1 ≤ c k) (hc : c k ≤ p k) (hq : p k ≤ 15) (hp : post (rb_ri (rb_rsp c p k S))) :
    wpX_responseUnder post (fp, fc, ra_f c, al, ra_f p, ao, bl, am) (nI k) (nI S) := by
  refine ⟨vp_in_nI hk (by omega), nm_r (e' := nI (c k)) (ra_fk (by omega)) ⟨16, xa_ru10 hS K hk hc hq hp 16 (c k) 0 h1 hc (by omega) (by omega) (fun s a b => ?_) (by omega)⟩⟩
  omega
theorem xa_n3 {t : Nat} (h : t < 2 ^ 31) : ¬ nI t = -3 := fun e => nI_pos h (by rw [e]; decide)
theorem xa_itu {post : Int32 → Prop} {S k : Nat} (T : rb_T P c d p) (hk : k < 5) (hb : P.testBit k = true) (hS : S < 32) (hs : rb_s S P) (hp : post (ra_b (rb_in c d p k S))) :
    wpX_inTimeUnder post (fp, fc, ra_f c, ra_f d, ra_f p, ao, bl, am) (nI k) (nI S) := by
  have t := T k hk hb
  refine xa_ru hS (rb_TK T hs) hk (by omega) (by omega) (by omega) ?_
  have hr := rb_rb c p k S
  by_cases e : rb_rsp c p k S = 0
  · have e2 : rb_in c d p k S = false := by unfold rb_in; rw [decide_eq_false (fun z => z e)]; rfl
    rw [e2, ra_b0] at hp
    rw [e, rb_ri0]
    exact br_t rfl hp
  · rw [rb_ris (by omega)]
    refine br_f (xa_n3 (by omega)) ⟨vp_in_nI hk (by omega), pk_lt (d k) (rb_rsp c p k S) (fun h => ?_) (fun h => ?_) (ra_fk (by omega)) rfl (by omega) (by omega)⟩
    · have e2 : rb_in c d p k S = false := by unfold rb_in; rw [decide_eq_false (p := rb_rsp c p k S ≤ d k) (by omega), Bool.and_false]
      rw [e2, ra_b0] at hp; exact hp
    · have e2 : rb_in c d p k S = true := by unfold rb_in; rw [decide_eq_true (p := rb_rsp c p k S ≤ d k) h, decide_eq_true (p := rb_rsp c p k S ≠ 0) e]; rfl
      rw [e2, ra_b1] at hp; exact hp
theorem xa_pos (O : rb_O P m o) {k : Nat} (hk : k < 5) (hb : P.testBit k = true) : ∃ a, a < m ∧ o a = k ∧ ∀ i, i < a → o i ≠ k := by
  obtain ⟨a, ha, e⟩ := O.2.2 k hk hb
  exact ⟨a, ha, e, fun i hi z => by have := O.2.1 i a (by omega) ha (z.trans e.symm); omega⟩
theorem xa_it4 {post : Int32 → Prop} (hP : P < 32) (hm : m ≤ 5) (T : rb_T P c d p) (O : rb_O P m o) (hp : post (nI (rb_bs (rb_tk (rb_in c d p) o m) 5))) :
    ∀ n k, k ≤ 5 → 5 - k < n → wX_inTime_4 post (nI P) (nI m) (ra_f c) (ra_f d) (ra_f p) (ra_f o) bl am n (nI (rb_bs (rb_tk (rb_in c d p) o m) k)) (nI k) := by
  intro n
  induction n with
  | zero => intro k _ h; omega
  | succ n ih =>
    intro k hk hn
    have e0 : rb_tk (rb_in c d p) o m k = false → rb_bs (rb_tk (rb_in c d p) o m) (k + 1) = rb_bs (rb_tk (rb_in c d p) o m) k := fun h => if_neg (by rw [h]; decide)
    have e1 : rb_tk (rb_in c d p) o m k = true → rb_bs (rb_tk (rb_in c d p) o m) (k + 1) = rb_bs (rb_tk (rb_in c d p) o m) k ||| 2 ^ k := fun h => if_pos h
    refine pk_le 5 k (fun h => ?_) (fun h => xa_has hP (by omega) (fun hb => br_f ra_10 ?_) (fun hb => br_t rfl (nm_r (nI_1 k) ?_))) rfl rfl (by omega) (by omega)
    · have e : k = 5 := by omega
      rw [e]; exact hp
    · obtain ⟨a, ha, e, hf⟩ := xa_pos O (k := k) (by omega) hb
      have f := rb_tk_a (g := rb_in c d p) O ha
      rw [e] at f
      refine xa_mu hm (fun i hi => (O.1 i hi).1) (by omega) ha e hf (xa_itu T (by omega) hb (rb_mk_l O (by omega)) (rb_mk_s O (by omega)) ?_)
      have J := ih (k + 1) (by omega) (by omega)
      refine br_c (fun z => nm_r (ra_or0 _ (rb_bs_lt k (by omega))) (nm_r (nI_1 k) ?_)) (fun z => nm_r (ra_orI _ (rb_bs_lt k (by omega)) k (by omega)) (nm_r (nI_1 k) ?_))
      · rw [e0 (f.trans (ra_bz.mp z))] at J; exact J
      · rw [e1 (f.trans (ra_nt (fun q => z (ra_bz.mpr q))))] at J; exact J
    · have J := ih (k + 1) (by omega) (by omega)
      rw [e0 (rb_tk_n O hb)] at J; exact J
theorem xa_inTime {post : Int32 → Prop} (hP : P < 32) (hm : m ≤ 5) (T : rb_T P c d p) (O : rb_O P m o) (hp : post (nI (rb_bs (rb_tk (rb_in c d p) o m) 5))) :
    wpX_inTime post (nI P, nI m, ra_f c, ra_f d, ra_f p, ra_f o, bl, am) :=
  ⟨6, xa_it4 hP hm T O hp 6 0 (by omega) (by omega)⟩
theorem xa_good {post : Int32 → Prop} (hP : P < 32) (hm : m ≤ 5) (T : rb_T P c d p) (O : rb_O P m o) (hp : post (ra_b (rb_ag P (rb_tk (rb_in c d p) o m)))) :
    wpX_good post (nI P, nI m, ra_f c, ra_f d, ra_f p, ra_f o, bl, am) := by
  have hl := rb_bs_lt (f := rb_tk (rb_in c d p) o m) 5 (by omega)
  have e := rb_bs_P hP (t := rb_tk (rb_in c d p) o m) (fun k _ hb => rb_tk_n O hb)
  refine xa_inTime hP hm T O (pk_eq (rb_bs (rb_tk (rb_in c d p) o m) 5) P (fun h => ?_) (fun h => ?_) rfl rfl (by omega) (by omega))
  · rw [e.mp h, ra_b1] at hp; exact hp
  · rw [ra_nf (fun z => h (e.mpr z)), ra_b0] at hp; exact hp
theorem xa_response {post : Int32 → Prop} {k a : Nat} (hP : P < 32) (hm : m ≤ 5) (T : rb_T P c d p) (O : rb_O P m o) (hk : k < 5) (hb : P.testBit k = true) (ha : a < m) (he : o a = k) (hp : post (rb_ri (rb_rsp c p k (rb_mk o a)))) :
    wpX_response post (nI P, nI m, ra_f c, ra_f d, ra_f p, ra_f o, bl, am) (nI k) := by
  have t := T k hk hb
  unfold wpX_response
  refine xa_has hP hk (fun _ => br_f ra_10 ?_) (fun z => absurd (hb.symm.trans z) (by decide))
  exact xa_mu hm (fun i hi => (O.1 i hi).1) hk ha he (fun i hi z => by have := O.2.1 i a (by omega) ha (z.trans he.symm); omega)
    (xa_ru (rb_mk_l O (by omega)) (rb_TK T (rb_mk_s O (by omega))) hk (by omega) (by omega) (by omega) hp)
/-! idle -/
def xa_N (x : Int32) : Nat := min x.toInt.toNat 60
theorem xa_N60 (x : Int32) : xa_N x ≤ 60 := Nat.min_le_right _ _
theorem xa_Nlt {x : Int32} {t : Nat} (ht : t < 60) : x < nI (t + 1) ↔ xa_N x ≤ t := by
  rw [Int32.lt_iff_toInt_lt, nI_toInt (by omega)]
  unfold xa_N
  omega
theorem xa_Nle {x : Int32} {t : Nat} (ht : t < 60) : x ≤ nI t ↔ xa_N x ≤ t := by
  rw [Int32.le_iff_toInt_le, nI_toInt (by omega)]
  unfold xa_N
  omega
def xa_id (c p : Nat → Nat) (P : Nat) : Nat → Nat
  | 0 => 0
  | t + 1 => if xa_id c p P t < t + 1 - rb_W c p P (t + 1) then t + 1 - rb_W c p P (t + 1) else xa_id c p P t
theorem xa_id_le (c p : Nat → Nat) (P : Nat) : ∀ t, xa_id c p P t ≤ t := by
  intro t
  induction t with
  | zero => exact Nat.le_refl _
  | succ t ih =>
    show (if xa_id c p P t < t + 1 - rb_W c p P (t + 1) then t + 1 - rb_W c p P (t + 1) else xa_id c p P t) ≤ t + 1
    by_cases h : xa_id c p P t < t + 1 - rb_W c p P (t + 1)
    · rw [if_pos h]; omega
    · rw [if_neg h]; omega
theorem xa_id4 {post : Int32 → Prop} {x : Int32} (hP : P < 32) (K : rb_K P c p) (hp : post (nI (xa_id c p P (xa_N x)))) :
    ∀ n t, t ≤ xa_N x → xa_N x - t < n → wX_idle_4 post x (nI P) fc (ra_f c) al (ra_f p) ao bl am n (nI (xa_id c p P t)) (nI (t + 1)) := by
  intro n
  induction n with
  | zero => intro t _ h; omega
  | succ n ih =>
    intro t ht hn
    have h60 := xa_N60 x
    by_cases e : t = xa_N x
    · have hp' : post (nI (xa_id c p P t)) := by rw [e]; exact hp
      by_cases e2 : t < 60
      · exact br_t ((xa_Nlt e2).mpr (by omega)) hp'
      · exact br_c (fun _ => hp') (fun _ => br_t (nI_lt (a := 60) (by omega) (by omega)) hp')
    · have hW := rb_Wb K (t := t + 1) (by omega)
      have hi := xa_id_le c p P t
      have J := ih (t + 1) (by omega) (by omega)
      have je : xa_id c p P (t + 1) = if xa_id c p P t < t + 1 - rb_W c p P (t + 1) then t + 1 - rb_W c p P (t + 1) else xa_id c p P t := rfl
      refine br_f (fun z => absurd ((xa_Nlt (by omega)).mp z) (by omega)) (pk_lt 60 (t + 1) (fun h => absurd h (by omega)) (fun _ => xa_work hP K (by omega) (nm_e ?_)) rfl rfl (by omega) (by omega))
      have q : (nI (t + 1) - nI (rb_W c p P (t + 1)) ≤ nI (xa_id c p P t)) ↔ ¬ xa_id c p P t < t + 1 - rb_W c p P (t + 1) := by
        rw [Int32.le_iff_toInt_le, pk_sub_toInt (by omega) (by omega), nI_toInt (by omega)]
        omega
      refine br_c (fun z => nm_r (nI_1 (t + 1)) ?_) (fun z => nm_r (nI_1 (t + 1)) ?_)
      · rw [je, if_neg (q.mp z)] at J; exact J
      · have z2 : xa_id c p P t < t + 1 - rb_W c p P (t + 1) := by
          by_cases y : xa_id c p P t < t + 1 - rb_W c p P (t + 1)
          · exact y
          · exact absurd (q.mpr y) z
        rw [je, if_pos z2, ← pk_sub (by omega)] at J; exact J
theorem xa_idle {post : Int32 → Prop} {x : Int32} (hP : P < 32) (K : rb_K P c p) (hp : post (nI (xa_id c p P (xa_N x)))) :
    wpX_idle post (nI P, fc, ra_f c, al, ra_f p, ao, bl, am) x :=
  ⟨61, xa_id4 hP K hp 61 0 (by omega) (by have := xa_N60 x; omega)⟩
end
end
section
/-! the reference's row: units of time -/
section
variable {P m : Nat} {c d p o w : Nat → Nat} {fs : Int32} {th ac al ap ao ar lf gv : Nat → Int32}
theorem ya_th {k : Nat} (hk : k < 5) : ra_t P (nI k).toNatClampNeg = 0 ↔ P.testBit k = false := by rw [ra_tk (by omega)]; exact ra_bz
theorem ya_is {post : Int32 → Prop} {k : Nat} (hk : k < 5) (h1 : P.testBit k = true → post 1) (h0 : P.testBit k = false → post 0) : wpY_is post (fs, ra_t P, ac, al, ap, ao, ar, lf, gv) (nI k) := by
  have e := ya_th (P := P) hk
  exact br_f (nI_pos (by omega)) (pk_le 5 k (fun h => absurd h (by omega)) (fun _ => ⟨vp_in_nI hk (by omega), br_c (fun z => h0 (e.mp z)) (fun z => h1 (ra_nt (fun q => z (e.mpr q))))⟩))
theorem ya_isN {post : Int32 → Prop} {x : Int32} (hx : x < 0 ∨ nI 5 ≤ x) (h0 : post 0) : wpY_is post (fs, th, ac, al, ap, ao, ar, lf, gv) x := by
  rcases hx with h | h
  · exact br_t h h0
  · exact br_c (fun _ => h0) (fun _ => br_t h h0)
theorem ya_uo2 {post : SY → Prop} (hm : m ≤ 5) (hp : ∀ w' : Nat → Nat, (∀ j, j < m → w' j = o j) → post (nI m, th, ac, al, ap, ra_f o, ra_f w', lf, gv)) :
    ∀ n i (w : Nat → Nat), i ≤ m → m - i < n → (∀ j, j < i → w j = o j) → wY_useOrder_2 post (nI m) n (nI i) th ac al ap (ra_f o) (ra_f w) lf gv := by
  intro n
  induction n with
  | zero => intro i w _ h; omega
  | succ n ih =>
    intro i w hi hn hw
    refine pk_le m i (fun h => hp w (fun j hj => hw j (by omega))) (fun h => ⟨vp_in_nI (by omega) (by omega), vp_in_nI (by omega) (by omega), nm_r (e' := ra_f (ra_u w i (o i))) ?_ (nm_r (nI_1 i) (ih (i + 1) _ (by omega) (by omega) (fun j hj => ?_)))⟩) rfl rfl (by omega) (by omega)
    · rw [ra_fk (by omega)]; exact ra_fuk w (by omega) (o i)
    · by_cases e : j = i
      · rw [e]; exact ra_us
      · rw [ra_un e]; exact hw j (by omega)
theorem ya_uo {post : SY → Prop} (hm : m ≤ 5) (hp : ∀ w' : Nat → Nat, (∀ j, j < m → w' j = o j) → post (nI m, th, ac, al, ap, ra_f o, ra_f w', lf, gv)) :
    wpY_useOrder post (nI m, th, ac, al, ap, ra_f o, ar, lf, gv) := by
  obtain ⟨w, rfl⟩ := ra_any ar
  exact ⟨m + 1, ya_uo2 hm hp (m + 1) 0 w (by omega) (by omega) (fun j hj => by omega)⟩
theorem ya_st2 {post : SY → Prop} (hp : ∀ l g : Nat → Nat, (∀ j, j < 5 → l j = 0) → (∀ j, j < 5 → g j = 0) → post (fs, th, ac, al, ap, ao, ar, ra_f l, ra_f g)) :
    ∀ n i (l g : Nat → Nat), i ≤ 5 → 5 - i < n → (∀ j, j < i → l j = 0) → (∀ j, j < i → g j = 0) → wY_start_2 post fs n (nI i) th ac al ap ao ar (ra_f l) (ra_f g) := by
  intro n
  induction n with
  | zero => intro i l g _ h; omega
  | succ n ih =>
    intro i l g hi hn hl hg
    refine pk_le 5 i (fun h => hp l g (fun j hj => hl j (by omega)) (fun j hj => hg j (by omega))) (fun h => ⟨vp_in_nI (by omega) (by omega), nm_r (e' := ra_f (ra_u l i 0)) (ra_fuk l (by omega) 0) ⟨vp_in_nI (by omega) (by omega), nm_r (e' := ra_f (ra_u g i 0)) (ra_fuk g (by omega) 0) (nm_r (nI_1 i) (ih (i + 1) _ _ (by omega) (by omega) (fun j hj => ?_) (fun j hj => ?_)))⟩⟩) rfl rfl (by omega) (by omega)
    · by_cases e : j = i
      · rw [e]; exact ra_us
      · rw [ra_un e]; exact hl j (by omega)
    · by_cases e : j = i
      · rw [e]; exact ra_us
      · rw [ra_un e]; exact hg j (by omega)
theorem ya_st {post : SY → Prop} (hp : ∀ l g : Nat → Nat, (∀ j, j < 5 → l j = 0) → (∀ j, j < 5 → g j = 0) → post (fs, th, ac, al, ap, ao, ar, ra_f l, ra_f g)) :
    wpY_start post (fs, th, ac, al, ap, ao, ar, lf, gv) := by
  obtain ⟨l, rfl⟩ := ra_any lf
  obtain ⟨g, rfl⟩ := ra_any gv
  exact ⟨6, ya_st2 hp 6 0 l g (by omega) (by omega) (fun j hj => by omega) (fun j hj => by omega)⟩
theorem ya_u73 {post : Int32 → SY → Prop} {J : Int32 → Int32 → (Nat → Int32) → (Nat → Int32) → (Nat → Int32) → (Nat → Int32) → (Nat → Int32) → (Nat → Int32) → (Nat → Int32) → (Nat → Int32) → Prop} {x1 f x3 z0 : Int32} {k v : Nat} {l : Nat → Nat} (hk : k < 5) (hv : v < 2 ^ 31) (hz : z0 = nI v)
    (h0 : v = 0 → J f (x3 + (-1)) th ac al ap ao ar (ra_f (ra_u l k v)) gv) (h1 : 0 < v → J (nI k) (x3 + (-1)) th ac al ap ao ar (ra_f (ra_u l k v)) gv) :
    wY_unit_73 post J x1 f x3 (nI k) z0 (nI k) fs th ac al ap ao ar (ra_f l) gv := by
  subst hz
  refine ⟨vp_in_nI hk (by omega), nm_r (e' := ra_f (ra_u l k v)) (ra_fuk l (by omega) v) ⟨vp_in_nI hk (by omega), pk_le v 0 (fun h => nm_e (h0 (by omega))) (fun h => nm_e (h1 h)) ?_ rfl hv (by omega)⟩⟩
  rw [ra_fk (by omega), ra_us]
theorem ya_u9 {post : Int32 → SY → Prop} {t : Nat} {l0 g : Nat → Nat} (hm : m ≤ 5) (ht : t < 64) (hw : ∀ i, i < m → w i < 5) (hj : ∀ i j, i < m → j < m → w i = w j → i = j)
    (hq : ∀ i, i < m → 1 ≤ p (w i) ∧ p (w i) ≤ 15 ∧ c (w i) ≤ 15 ∧ l0 (w i) ≤ 5000)
    (hI : ∀ l' : Nat → Nat, (∀ i, i < m → l' (w i) = l0 (w i) + (if t % p (w i) = 0 then c (w i) else 0)) → (∀ i, i < m → l' (w i) = 0) → post (-1) (nI m, th, ra_f c, al, ra_f p, ao, ra_f w, ra_f l', ra_f g))
    (hK : ∀ (l' : Nat → Nat) (a : Nat), a < m → (∀ i, i < m → l' (w i) = l0 (w i) + (if t % p (w i) = 0 then c (w i) else 0)) → 0 < l' (w a) → (∀ i, i < a → l' (w i) = 0) → post (nI (w a)) (nI m, th, ra_f c, al, ra_f p, ao, ra_f w, ra_f (ra_u l' (w a) (l' (w a) - 1)), ra_f (ra_u g (w a) (g (w a) + 1)))) :
    ∀ i (l : Nat → Nat) (f x : Int32), i ≤ m → x = nI i + (-1) → (∀ i', i' < i → l (w i') = l0 (w i')) → (∀ i', i ≤ i' → i' < m → l (w i') = l0 (w i') + (if t % p (w i') = 0 then c (w i') else 0)) →
      ((f = -1 ∧ ∀ i', i ≤ i' → i' < m → l (w i') = 0) ∨ (∃ a, i ≤ a ∧ a < m ∧ f = nI (w a) ∧ 0 < l (w a) ∧ ∀ i', i ≤ i' → i' < a → l (w i') = 0)) →
      wY_unit_9 post (nI t) (nI m) (i + 1) f x th (ra_f c) al (ra_f p) ao (ra_f w) (ra_f l) (ra_f g) := by
  intro i
  induction i with
  | zero =>
    intro l f x _ hx h1 h2 hf
    have hx0 : x < 0 := by rw [hx]; decide
    refine br_t hx0 ?_
    rcases hf with ⟨rfl, hz⟩ | ⟨a, _, ha, rfl, hpos, hz⟩
    · exact br_t (by decide) (hI l (fun i hi => h2 i (by omega) hi) (fun i hi => hz i (by omega) hi))
    · have hwa := hw a ha
      refine br_f (nI_pos (by omega)) ⟨vp_in_nI hwa (by omega), vp_in_nI hwa (by omega), nm_r (e' := ra_f (ra_u l (w a) (l (w a) - 1))) ?_ ⟨vp_in_nI hwa (by omega), vp_in_nI hwa (by omega), nm_r (e' := ra_f (ra_u g (w a) (g (w a) + 1))) ?_ (hK l a ha (fun i hi => h2 i (by omega) hi) hpos (fun i hi => hz i (by omega) hi))⟩⟩
      · rw [ra_fk (by omega)]
        have e : nI (l (w a)) - 1 = nI (l (w a) - 1) := pk_sub (b := 1) (by omega)
        rw [e]; exact ra_fuk l (by omega) _
      · rw [ra_fk (by omega), nI_1]; exact ra_fuk g (by omega) _
  | succ i ih =>
    intro l f x hi hx h1 h2 hf
    rw [pk_m1] at hx
    subst hx
    have hwi := hw i (by omega)
    have hqi := hq i (by omega)
    have hli := h1 i (by omega)
    have hmod : t % p (w i) < p (w i) := Nat.mod_lt _ (by omega)
    have key : ∀ v, v = l (w i) + (if t % p (w i) = 0 then c (w i) else 0) → (∀ f' : Int32, ((v = 0 ∧ f' = f) ∨ (0 < v ∧ f' = nI (w i))) → wY_unit_9 post (nI t) (nI m) (i + 1) f' (nI i + (-1)) th (ra_f c) al (ra_f p) ao (ra_f w) (ra_f (ra_u l (w i) v)) (ra_f g)) := by
      intro v hv f' hf'
      have un : ∀ i', i' < m → i' ≠ i → ra_u l (w i) v (w i') = l (w i') := fun i' hi' hne => ra_un (fun e => hne (hj i' i hi' (by omega) e))
      refine ih _ f' _ (by omega) rfl (fun i' hi' => ?_) (fun i' ha hb => ?_) ?_
      · rw [un i' (by omega) (by omega)]; exact h1 i' (by omega)
      · by_cases e : i' = i
        · rw [e, ra_us, hv, hli]
        · rw [un i' hb e]; exact h2 i' (by omega) hb
      · rcases hf' with ⟨v0, rfl⟩ | ⟨v1, rfl⟩
        · rcases hf with ⟨e, hz⟩ | ⟨a, ha, ham, e, hpos, hz⟩
          · refine Or.inl ⟨e, fun i' hx hy => ?_⟩
            by_cases q : i' = i
            · rw [q, ra_us]; exact v0
            · rw [un i' hy q]; exact hz i' (by omega) hy
          · refine Or.inr ⟨a, by omega, ham, e, by rw [un a ham (by omega)]; exact hpos, fun i' hx hy => ?_⟩
            by_cases q : i' = i
            · rw [q, ra_us]; exact v0
            · rw [un i' (by omega) q]; exact hz i' (by omega) hy
        · exact Or.inr ⟨i, by omega, by omega, rfl, by rw [ra_us]; exact v1, fun i' hx hy => by omega⟩
    refine br_f (nI_pos (by omega)) ⟨vp_in_nI (by omega) (by omega), nm_r (e' := nI (w i)) (ra_fk (by omega)) ⟨vp_in_nI hwi (by omega), nm_r (e' := nI (p (w i))) (ra_fk (by omega)) (pk_le (p (w i)) 0 (fun h => absurd h (by omega)) (fun _ => ⟨nI_ne0 (by omega) (by omega), pk_eq (t % p (w i)) 0 (fun h => ⟨vp_in_nI hwi (by omega), vp_in_nI hwi (by omega), ?_⟩) (fun h => ⟨vp_in_nI hwi (by omega), ?_⟩) (pk_rem (by omega) (by omega) (by omega)) rfl (by omega) (by omega)⟩) rfl rfl (by omega) (by omega))⟩⟩
    · rw [if_pos h] at key
      exact ya_u73 hwi (v := l (w i) + c (w i)) (by omega) (by rw [ra_fk (by omega), ra_fk (by omega), nI_add]) (fun z => key _ rfl _ (Or.inl ⟨z, rfl⟩)) (fun z => key _ rfl _ (Or.inr ⟨z, rfl⟩))
    · rw [if_neg h] at key
      exact ya_u73 hwi (v := l (w i)) (by omega) (ra_fk (by omega)) (fun z => key _ rfl _ (Or.inl ⟨z, rfl⟩)) (fun z => key _ rfl _ (Or.inr ⟨z, rfl⟩))
theorem ya_unit {post : Int32 → SY → Prop} {t : Nat} {l g : Nat → Nat} (hm : m ≤ 5) (ht : t < 64) (T : rb_T P c d p) (O : rb_O P m w)
    (hL : ∀ j, j < 5 → P.testBit j = true → l j + g j = rb_w c p t j)
    (hI : ∀ l' : Nat → Nat, (∀ j, j < 5 → P.testBit j = true → l' j + g j = rb_w c p (t + 1) j) → (∀ j, j < 5 → P.testBit j = true → l' j = 0) → post (-1) (nI m, th, ra_f c, al, ra_f p, ao, ra_f w, ra_f l', ra_f g))
    (hK : ∀ (l' : Nat → Nat) (a : Nat), a < m → (∀ j, j < 5 → P.testBit j = true → l' j + g j = rb_w c p (t + 1) j) → 0 < l' (w a) → (∀ i, i < a → l' (w i) = 0) → post (nI (w a)) (nI m, th, ra_f c, al, ra_f p, ao, ra_f w, ra_f (ra_u l' (w a) (l' (w a) - 1)), ra_f (ra_u g (w a) (g (w a) + 1)))) :
    wpY_unit post (nI m, th, ra_f c, al, ra_f p, ao, ra_f w, ra_f l, ra_f g) (nI t) := by
  have cv : ∀ l' : Nat → Nat, (∀ i, i < m → l' (w i) = l (w i) + (if t % p (w i) = 0 then c (w i) else 0)) → ∀ j, j < 5 → P.testBit j = true → l' j + g j = rb_w c p (t + 1) j := by
    intro l' h j hj hb
    obtain ⟨i, hi, e⟩ := O.2.2 j hj hb
    have t1 := T j hj hb
    have h1 := h i hi
    have h2 := hL j hj hb
    rw [e] at h1
    rw [rb_ws ht (by omega) (by omega), h1, ← h2]
    omega
  refine nm_r (e' := nI m + (-1)) (Int32.sub_eq_add_neg (nI m) 1) ⟨m + 1, ya_u9 hm ht (fun i hi => (O.1 i hi).1) O.2.1 (fun i hi => ?_) (fun l' h hz => hI l' (cv l' h) (fun j hj hb => ?_)) (fun l' a ha h hpos hz => hK l' a ha (cv l' h) hpos hz) m l (-1) _ (Nat.le_refl m) rfl (fun i' _ => rfl) (fun i' _ _ => by omega) (Or.inl ⟨rfl, fun i' _ _ => by omega⟩)⟩
  · have o1 := O.1 i hi
    have t1 := T (w i) o1.1 o1.2
    have h2 := hL (w i) o1.1 o1.2
    have h3 := rb_wb (c := c) (p := p) (t := t) (j := w i) (by omega) (by omega) (by omega)
    omega
  · obtain ⟨i, hi, e⟩ := O.2.2 j hj hb
    rw [← e]; exact hz i hi
/-! facts that a unit keeps -/
theorem ya_L2 {t b : Nat} {l' g : Nat → Nat} (hL : ∀ j, j < 5 → P.testBit j = true → l' j + g j = rb_w c p t j) (hpos : 0 < l' b) :
    ∀ j, j < 5 → P.testBit j = true → ra_u l' b (l' b - 1) j + ra_u g b (g b + 1) j = rb_w c p t j := by
  intro j hj hb
  have h := hL j hj hb
  by_cases e : j = b
  · subst e; rw [ra_us, ra_us]; omega
  · rw [ra_un e, ra_un e]; exact h
theorem ya_Lle {t S : Nat} {l' g : Nat → Nat} (hs : rb_s S P) (hL : ∀ j, j < 5 → P.testBit j = true → l' j + g j = rb_w c p t j) : ra_ps g S 5 ≤ rb_W c p S t :=
  ra_ps_le 5 (fun j hj hb => by have := hL j hj (hs j hj hb); omega)
theorem ya_Leq {t S : Nat} {l' g : Nat → Nat} (hs : rb_s S P) (hL : ∀ j, j < 5 → P.testBit j = true → l' j + g j = rb_w c p t j) (hz : ∀ j, j < 5 → S.testBit j = true → l' j = 0) : ra_ps g S 5 = rb_W c p S t :=
  ra_ps_eq 5 (fun j hj hb => by have := hL j hj (hs j hj hb); have := hz j hj hb; omega)
theorem ya_ro6 {post : Int32 → SY → Prop} {a : Nat} (hm : m ≤ 5) (T : rb_T P c d p) (O : rb_O P m w) (ha : a < m)
    (hp : ∀ lf gv : Nat → Int32, post (rb_ri (rb_rsp c p (w a) (rb_mk w a))) (nI m, th, ra_f c, al, ra_f p, ao, ra_f w, lf, gv)) :
    ∀ n t (l g : Nat → Nat), t ≤ p (w a) → p (w a) - t < n → (∀ j, j < 5 → P.testBit j = true → l j + g j = rb_w c p t j) → g (w a) < c (w a) → ra_ps g (rb_mk w a) 5 + g (w a) = t →
      (∀ s, 1 ≤ s → s ≤ t → s < c (w a) + rb_W c p (rb_mk w a) s) →
      wY_responseOf_6 post (nI (w a)) n (nI t) (nI m) th (ra_f c) al (ra_f p) ao (ra_f w) (ra_f l) (ra_f g) := by
  have o1 := O.1 a ha
  have t1 := T (w a) o1.1 o1.2
  have hs := rb_mk_s O (a := a) (by omega)
  have hka : (rb_mk w a).testBit (w a) = false := ra_nf (fun z => by
    obtain ⟨i, hi, e⟩ := (rb_mk_t a).mp z
    have := O.2.1 i a (by omega) ha e
    omega)
  intro n
  induction n with
  | zero => intro t l g _ h; omega
  | succ n ih =>
    intro t l g ht hn hL hg hsum hb
    refine ⟨vp_in_nI o1.1 (by omega), pk_le (p (w a)) t (fun h => ?_) (fun h => ya_unit hm (by omega) T O hL (fun l' h1 hz => ?_) (fun l' b hbm h1 hpos hz => ?_)) (ra_fk (by omega)) rfl (by omega) (by omega)⟩
    · have q := hp (ra_f l) (ra_f g)
      rw [rb_rn (fun s x y => hb s x (by omega)), rb_ri0] at q
      exact q
    · exfalso
      have e1 := h1 (w a) o1.1 o1.2
      have e2 := hz (w a) o1.1 o1.2
      rw [rb_wk h] at e1
      omega
    · have e1 := h1 (w a) o1.1 o1.2
      rw [rb_wk h] at e1
      have L2 := ya_L2 h1 hpos
      have le2 := ya_Lle hs L2
      by_cases hab : a < b
      · exfalso
        have := hz a hab
        omega
      · by_cases hba : b = a
        · subst hba
          rw [ra_ps_n hka] at le2
          refine br_t rfl ⟨vp_in_nI o1.1 (by omega), vp_in_nI o1.1 (by omega), pk_eq (g (w b) + 1) (c (w b)) (fun e => ?_) (fun e => nm_r (nI_1 t) (ih (t + 1) _ _ (by omega) (by omega) L2 ?_ ?_ (fun s x y => ?_))) (by rw [ra_fk (by omega), ra_us]) (ra_fk (by omega)) (by omega) (by omega)⟩
          · have W := ya_Leq (S := rb_mk w b) hs h1 (fun j hj hbj => by
              obtain ⟨i, hi, e⟩ := (rb_mk_t b).mp hbj
              rw [← e]; exact hz i hi)
            have q := hp (ra_f (ra_u l' (w b) (l' (w b) - 1))) (ra_f (ra_u g (w b) (g (w b) + 1)))
            rw [rb_rs (t := t + 1) (by omega) (by omega) (by omega) (fun s x y => hb s x (by omega)), rb_ris (by omega), ← nI_1] at q
            exact q
          · rw [ra_us]; omega
          · rw [ra_ps_n hka, ra_us]; omega
          · by_cases z : s ≤ t
            · exact hb s x z
            · have e3 : s = t + 1 := by omega
              rw [e3]; omega
        · have hbS : (rb_mk w a).testBit (w b) = true := (rb_mk_t a).mpr ⟨b, by omega, rfl⟩
          have hw5 := (O.1 b hbm).1
          have ne : w a ≠ w b := fun e => hba (O.2.1 b a hbm ha e.symm)
          rw [ra_ps_u hbS, if_pos hw5] at le2
          refine br_f (fun e => ne ((nI_eq (by omega) (by omega)).mp e).symm) (nm_r (nI_1 t) (ih (t + 1) _ _ (by omega) (by omega) L2 ?_ ?_ (fun s x y => ?_)))
          · rw [ra_un ne]; exact hg
          · rw [ra_ps_u hbS, if_pos hw5, ra_un ne]; omega
          · by_cases z : s ≤ t
            · exact hb s x z
            · have e3 : s = t + 1 := by omega
              rw [e3]; omega
theorem ya_ro {post : Int32 → SY → Prop} {a : Nat} (hm : m ≤ 5) (T : rb_T P c d p) (O : rb_O P m w) (ha : a < m)
    (hp : ∀ lf gv : Nat → Int32, post (rb_ri (rb_rsp c p (w a) (rb_mk w a))) (nI m, th, ra_f c, al, ra_f p, ao, ra_f w, lf, gv)) :
    wpY_responseOf post (nI m, th, ra_f c, al, ra_f p, ao, ra_f w, lf, gv) (nI (w a)) := by
  have o1 := O.1 a ha
  have t1 := T (w a) o1.1 o1.2
  refine ya_st (fun l g hl hg => ⟨p (w a) + 1, ya_ro6 hm T O ha hp (p (w a) + 1) 0 l g (by omega) (by omega) (fun j hj hb => ?_) ?_ ?_ (fun s x y => by omega)⟩)
  · have t2 := T j hj hb
    rw [rb_w0 (by omega), hl j hj, hg j hj]
  · rw [hg _ o1.1]; omega
  · have e := ra_ps_b (f := g) (S := rb_mk w a) (B := 0) 5 (fun j hj _ => by rw [hg j hj]; exact Nat.le_refl 0)
    rw [hg _ o1.1]; omega
theorem ya_pu {post : Int32 → SY → Prop} {a : Nat} (hm : m ≤ 5) (T : rb_T P c d p) (O : rb_O P m w) (ha : a < m)
    (hp : ∀ lf gv : Nat → Int32, post (ra_b (rb_in c d p (w a) (rb_mk w a))) (nI m, th, ra_f c, ra_f d, ra_f p, ao, ra_f w, lf, gv)) :
    wpY_punctual post (nI m, th, ra_f c, ra_f d, ra_f p, ao, ra_f w, lf, gv) (nI (w a)) := by
  have o1 := O.1 a ha
  have t1 := T (w a) o1.1 o1.2
  have hr := rb_rb c p (w a) (rb_mk w a)
  refine ya_ro hm T O ha (fun lf gv => ?_)
  have q := hp lf gv
  by_cases e : rb_rsp c p (w a) (rb_mk w a) = 0
  · have e2 : rb_in c d p (w a) (rb_mk w a) = false := by unfold rb_in; rw [decide_eq_false (fun z => z e)]; rfl
    rw [e2, ra_b0] at q
    rw [e, rb_ri0]
    exact br_t rfl q
  · rw [rb_ris (by omega)]
    refine br_f (xa_n3 (by omega)) ⟨vp_in_nI o1.1 (by omega), pk_lt (d (w a)) (rb_rsp c p (w a) (rb_mk w a)) (fun h => ?_) (fun h => ?_) (ra_fk (by omega)) rfl (by omega) (by omega)⟩
    · have e2 : rb_in c d p (w a) (rb_mk w a) = false := by unfold rb_in; rw [decide_eq_false (p := rb_rsp c p (w a) (rb_mk w a) ≤ d (w a)) (by omega), Bool.and_false]
      rw [e2, ra_b0] at q; exact q
    · have e2 : rb_in c d p (w a) (rb_mk w a) = true := by unfold rb_in; rw [decide_eq_true (p := rb_rsp c p (w a) (rb_mk w a) ≤ d (w a)) h, decide_eq_true (p := rb_rsp c p (w a) (rb_mk w a) ≠ 0) e]; rfl
      rw [e2, ra_b1] at q; exact q
theorem ya_nb (b : Bool) : narrow .boolean (.int (ra_b b)) = .int (ra_b b) := by cases b <;> rfl
theorem ya_ap4 {post : Int32 → SY → Prop} (hP : P < 32) (hm : m ≤ 5) (T : rb_T P c d p) (O : rb_O P m w)
    (hp : ∀ lf gv : Nat → Int32, post (ra_b (rb_ag P (rb_tk (rb_in c d p) w m))) (nI m, ra_t P, ra_f c, ra_f d, ra_f p, ao, ra_f w, lf, gv)) :
    ∀ n k (lf gv : Nat → Int32), k ≤ 5 → 5 - k < n → wY_allPunctual_4 post n (ra_b (rb_al (fun k => !P.testBit k || rb_tk (rb_in c d p) w m k) k)) (nI k) (nI m) (ra_t P) (ra_f c) (ra_f d) (ra_f p) ao (ra_f w) lf gv := by
  intro n
  induction n with
  | zero => intro k _ _ _ h; omega
  | succ n ih =>
    intro k lf gv hk hn
    have es : rb_al (fun k => !P.testBit k || rb_tk (rb_in c d p) w m k) (k + 1) = (rb_al (fun k => !P.testBit k || rb_tk (rb_in c d p) w m k) k && (!P.testBit k || rb_tk (rb_in c d p) w m k)) := rfl
    have J : ∀ (b : Bool) (lf gv : Nat → Int32), rb_al (fun k => !P.testBit k || rb_tk (rb_in c d p) w m k) (k + 1) = b → k < 5 → wY_allPunctual_4 post n (ra_b b) (nI (k + 1)) (nI m) (ra_t P) (ra_f c) (ra_f d) (ra_f p) ao (ra_f w) lf gv := by
      intro b lf gv e hk5
      rw [← e]; exact ih (k + 1) lf gv (by omega) (by omega)
    refine pk_le 5 k (fun h => ⟨ya_nb _, ?_⟩) (fun h => br_c (fun z => nm_r (nI_1 k) (J false lf gv ?_ h)) (fun z => ⟨vp_in_nI h (by omega), br_c (fun y => nm_r (nI_1 k) (J true lf gv ?_ h)) (fun y => ?_)⟩)) rfl rfl (by omega) (by omega)
    · have e : k = 5 := by omega
      subst e; exact hp lf gv
    · rw [es, ra_bz.mp z, Bool.false_and]
    · rw [es, ra_nt (fun q => z (ra_bz.mpr q)), (ya_th h).mp y]; rfl
    · have hb : P.testBit k = true := ra_nt (fun q => y ((ya_th h).mpr q))
      have hz := ra_nt (fun q => z (ra_bz.mpr q))
      obtain ⟨a, ha, e, _⟩ := xa_pos O h hb
      subst e
      have f := rb_tk_a (g := rb_in c d p) O ha
      refine ya_pu hm T O ha (fun lf gv => br_c (fun q => nm_r (nI_1 (w a)) (J false lf gv ?_ h)) (fun q => nm_r (nI_1 (w a)) (J true lf gv ?_ h)))
      · rw [es, hb, f, ra_bz.mp q, Bool.not_true, Bool.or_false, Bool.and_false]
      · rw [es, hz, f, ra_nt (fun q' => q (ra_bz.mpr q')), Bool.or_true, Bool.and_true]
theorem ya_ap {post : Int32 → SY → Prop} (hP : P < 32) (hm : m ≤ 5) (T : rb_T P c d p) (O : rb_O P m w)
    (hp : ∀ lf gv : Nat → Int32, post (ra_b (rb_ag P (rb_tk (rb_in c d p) w m))) (nI m, ra_t P, ra_f c, ra_f d, ra_f p, ao, ra_f w, lf, gv)) :
    wpY_allPunctual post (nI m, ra_t P, ra_f c, ra_f d, ra_f p, ao, ra_f w, lf, gv) :=
  ⟨6, ya_ap4 hP hm T O hp 6 0 lf gv (by omega) (by omega)⟩
theorem ya_it8 {post : Int32 → SY → Prop} (hP : P < 32) (hm : m ≤ 5) (T : rb_T P c d p) (O : rb_O P m w)
    (hp : ∀ lf gv : Nat → Int32, post (nI (rb_bs (rb_tk (rb_in c d p) w m) 5)) (nI m, ra_t P, ra_f c, ra_f d, ra_f p, ao, ra_f w, lf, gv)) :
    ∀ n k (lf gv : Nat → Int32), k ≤ 5 → 5 - k < n → wY_inTime_8 post n (nI (rb_bs (rb_tk (rb_in c d p) w m) k)) (nI k) (nI m) (ra_t P) (ra_f c) (ra_f d) (ra_f p) ao (ra_f w) lf gv := by
  intro n
  induction n with
  | zero => intro k _ _ _ h; omega
  | succ n ih =>
    intro k lf gv hk hn
    have e0 : rb_tk (rb_in c d p) w m k = false → rb_bs (rb_tk (rb_in c d p) w m) (k + 1) = rb_bs (rb_tk (rb_in c d p) w m) k := fun h => if_neg (by rw [h]; decide)
    have e1 : rb_tk (rb_in c d p) w m k = true → rb_bs (rb_tk (rb_in c d p) w m) (k + 1) = rb_bs (rb_tk (rb_in c d p) w m) k ||| 2 ^ k := fun h => if_pos h
    refine pk_le 5 k (fun h => ?_) (fun h => ⟨vp_in_nI h (by omega), br_c (fun y => nm_r (nI_1 k) ?_) (fun y => ?_)⟩) rfl rfl (by omega) (by omega)
    · have e : k = 5 := by omega
      subst e; exact hp lf gv
    · have J := ih (k + 1) lf gv (by omega) (by omega)
      rw [e0 (rb_tk_n O ((ya_th h).mp y))] at J; exact J
    · have hb : P.testBit k = true := ra_nt (fun q => y ((ya_th h).mpr q))
      obtain ⟨a, ha, e, _⟩ := xa_pos O h hb
      subst e
      have f := rb_tk_a (g := rb_in c d p) O ha
      refine ya_pu hm T O ha (fun lf gv => br_c (fun q => nm_r (nI_1 (w a)) ?_) (fun q => nm_r (ra_orI _ (rb_bs_lt (w a) (by omega)) (w a) h) (nm_r (nI_1 (w a)) ?_)))
      · have J := ih (w a + 1) lf gv (by omega) (by omega)
        rw [e0 (f.trans (ra_bz.mp q))] at J; exact J
      · have J := ih (w a + 1) lf gv (by omega) (by omega)
        rw [e1 (f.trans (ra_nt (fun q' => q (ra_bz.mpr q'))))] at J; exact J
/-! idle -/
theorem ya_id12 {post : Int32 → SY → Prop} {x : Int32} (hP : P < 32) (hm : m ≤ 5) (T : rb_T P c d p) (O : rb_O P m w)
    (hp : ∀ lf gv : Nat → Int32, post (nI (xa_id c p P (xa_N x))) (nI m, th, ra_f c, al, ra_f p, ao, ra_f w, lf, gv)) :
    ∀ n t (l g : Nat → Nat), t ≤ xa_N x → xa_N x - t < n → (∀ j, j < 5 → P.testBit j = true → l j + g j = rb_w c p t j) → xa_id c p P t + ra_ps g P 5 = t →
      wY_idle_12 post x n (nI (xa_id c p P t)) (nI t) (nI m) th (ra_f c) al (ra_f p) ao (ra_f w) (ra_f l) (ra_f g) := by
  have hs : rb_s P P := fun _ _ h => h
  intro n
  induction n with
  | zero => intro t l g _ h; omega
  | succ n ih =>
    intro t l g ht hn hL hsum
    have h60 := xa_N60 x
    have je : xa_id c p P (t + 1) = if xa_id c p P t < t + 1 - rb_W c p P (t + 1) then t + 1 - rb_W c p P (t + 1) else xa_id c p P t := rfl
    by_cases e : t = xa_N x
    · have hp' := hp (ra_f l) (ra_f g)
      rw [← e] at hp'
      by_cases e2 : t < 60
      · exact br_c (fun _ => hp') (fun _ => br_t ((xa_Nle e2).mpr (by omega)) hp')
      · exact br_t (nI_le (a := 60) (by omega) (by omega)) hp'
    · refine br_f (nI_ge (b := 60) (by omega) (by omega)) (br_f (fun z => absurd ((xa_Nle (by omega)).mp z) (by omega)) (ya_unit hm (by omega) T O hL (fun l' h1 hz => ?_) (fun l' b hbm h1 hpos hz => ?_)))
      · have W := ya_Leq hs h1 hz
        have q : xa_id c p P (t + 1) = xa_id c p P t + 1 := by
          rw [je, if_pos (by omega)]; omega
        refine br_f (by decide) (nm_r (nI_1 _) (nm_r (nI_1 t) ?_))
        rw [← q]
        exact ih (t + 1) l' g (by omega) (by omega) h1 (by omega)
      · have L2 := ya_L2 h1 hpos
        have le2 := ya_Lle hs L2
        have ob := O.1 b hbm
        have ps := ra_ps_u (g := g) ob.2 5
        rw [if_pos ob.1] at ps
        have q : xa_id c p P (t + 1) = xa_id c p P t := by
          rw [je, if_neg (by omega)]
        refine br_t (nI_pos' (by omega)) (nm_r (nI_1 t) ?_)
        rw [← q]
        exact ih (t + 1) _ _ (by omega) (by omega) L2 (by omega)
theorem ya_idle {post : Int32 → SY → Prop} {x : Int32} (hP : P < 32) (hm : m ≤ 5) (T : rb_T P c d p) (O : rb_O P m o)
    (hp : ∀ ar lf gv : Nat → Int32, post (nI (xa_id c p P (xa_N x))) (nI m, th, ra_f c, al, ra_f p, ra_f o, ar, lf, gv)) :
    wpY_idle post (nI m, th, ra_f c, al, ra_f p, ra_f o, ar, lf, gv) x := by
  refine ya_uo hm (fun w hw => ya_st (fun l g hl hg => ⟨61, ya_id12 hP hm T (rb_Oc O hw) (hp _) 61 0 l g (by omega) (by have := xa_N60 x; omega) (fun j hj hb => ?_) ?_⟩))
  · have t2 := T j hj hb
    rw [rb_w0 (by omega), hl j hj, hg j hj]
  · have e := ra_ps_b (f := g) (S := P) (B := 0) 5 (fun j hj _ => by rw [hg j hj]; exact Nat.le_refl 0)
    show 0 + ra_ps g P 5 = 0
    omega
theorem ya_inTime {post : Int32 → SY → Prop} (hP : P < 32) (hm : m ≤ 5) (T : rb_T P c d p) (O : rb_O P m o)
    (hp : ∀ ar lf gv : Nat → Int32, post (nI (rb_bs (rb_tk (rb_in c d p) o m) 5)) (nI m, ra_t P, ra_f c, ra_f d, ra_f p, ra_f o, ar, lf, gv)) :
    wpY_inTime post (nI m, ra_t P, ra_f c, ra_f d, ra_f p, ra_f o, ar, lf, gv) := by
  refine ya_uo hm (fun w hw => ⟨6, ya_it8 hP hm T (rb_Oc O hw) (fun lf gv => ?_) 6 0 lf gv (by omega) (by omega)⟩)
  rw [show rb_tk (rb_in c d p) w m = rb_tk (rb_in c d p) o m from funext (rb_tk_c hw)]
  exact hp _ _ _
theorem ya_good {post : Int32 → SY → Prop} (hP : P < 32) (hm : m ≤ 5) (T : rb_T P c d p) (O : rb_O P m o)
    (hp : ∀ ar lf gv : Nat → Int32, post (ra_b (rb_ag P (rb_tk (rb_in c d p) o m))) (nI m, ra_t P, ra_f c, ra_f d, ra_f p, ra_f o, ar, lf, gv)) :
    wpY_good post (nI m, ra_t P, ra_f c, ra_f d, ra_f p, ra_f o, ar, lf, gv) := by
  refine ya_uo hm (fun w hw => ya_ap hP hm T (rb_Oc O hw) (fun lf gv => ⟨ya_nb _, ?_⟩))
  rw [show rb_tk (rb_in c d p) w m = rb_tk (rb_in c d p) o m from funext (rb_tk_c hw)]
  exact hp _ _ _
theorem ya_response {post : Int32 → SY → Prop} {a : Nat} (hP : P < 32) (hm : m ≤ 5) (T : rb_T P c d p) (O : rb_O P m o) (ha : a < m)
    (hp : ∀ ar lf gv : Nat → Int32, post (rb_ri (rb_rsp c p (o a) (rb_mk o a))) (nI m, ra_t P, ra_f c, ra_f d, ra_f p, ra_f o, ar, lf, gv)) :
    wpY_response post (nI m, ra_t P, ra_f c, ra_f d, ra_f p, ra_f o, ar, lf, gv) (nI (o a)) := by
  have o1 := O.1 a ha
  refine ya_uo hm (fun w hw => ya_is o1.1 (fun _ => br_f ra_10 ?_) (fun z => absurd (o1.2.symm.trans z) (by decide)))
  rw [← hw a ha]
  refine ya_ro hm T (rb_Oc O hw) ha (fun lf gv => ?_)
  rw [rb_mk_c a (fun i hi => hw i (by omega)), hw a ha]
  exact hp _ _ _
end
end
section
/-! tasks and their order: add, remove, place -/
def rc_sh : Nat → Nat → (Nat → Nat) → (Nat → Nat)
  | 0, _, o => o
  | n + 1, i, o => rc_sh n (i + 1) (ra_u o i (o (i + 1)))
def rc_sd : Nat → Nat → (Nat → Nat) → (Nat → Nat)
  | 0, _, o => o
  | n + 1, j, o => rc_sd n (j - 1) (ra_u o j (o (j - 1)))
theorem rc_sh_t : ∀ n i (o : Nat → Nat) j, rc_sh n i o j = if i ≤ j ∧ j < i + n then o (j + 1) else o j := by
  intro n
  induction n with
  | zero => intro i o j; rw [if_neg (by omega)]; rfl
  | succ n ih =>
    intro i o j
    show rc_sh n (i + 1) (ra_u o i (o (i + 1))) j = _
    rw [ih]
    by_cases h : i + 1 ≤ j ∧ j < i + 1 + n
    · rw [if_pos h, if_pos (by omega), ra_un (by omega)]
    · rw [if_neg h]
      by_cases e : j = i
      · rw [e, ra_us, if_pos (by omega)]
      · rw [ra_un e, if_neg (by omega)]
theorem rc_sd_t : ∀ n j (o : Nat → Nat) x, n ≤ j → rc_sd n j o x = if j < x + n ∧ x ≤ j then o (x - 1) else o x := by
  intro n
  induction n with
  | zero => intro j o x _; rw [if_neg (by omega)]; rfl
  | succ n ih =>
    intro j o x hj
    show rc_sd n (j - 1) (ra_u o j (o (j - 1))) x = _
    rw [ih _ _ _ (by omega)]
    by_cases h : j - 1 < x + n ∧ x ≤ j - 1
    · rw [if_pos h, if_pos (by omega), ra_un (by omega)]
    · rw [if_neg h]
      by_cases e : x = j
      · rw [e, ra_us, if_pos (by omega)]
      · rw [ra_un e, if_neg (by omega)]
/-! the order stays an order -/
theorem rc_Oadd {P m k : Nat} {o : Nat → Nat} (O : rb_O P m o) (hk : k < 5) (hb : P.testBit k = false) : rb_O (P ||| 2 ^ k) (m + 1) (ra_u o m k) := by
  have v : ∀ i, i < m → ra_u o m k i = o i := fun i hi => ra_un (by omega)
  have nk : ∀ i, i < m → o i ≠ k := fun i hi e => by
    have := (O.1 i hi).2
    rw [e, hb] at this; exact absurd this (by decide)
  refine ⟨fun i hi => ?_, fun i j hi hj e => ?_, fun y hy hb2 => ?_⟩
  · by_cases h : i = m
    · rw [h, ra_us, ra_or_t, decide_eq_true rfl, Bool.or_true]; exact ⟨hk, rfl⟩
    · rw [v i (by omega), ra_or_t, (O.1 i (by omega)).2, Bool.true_or]; exact ⟨(O.1 i (by omega)).1, rfl⟩
  · by_cases h : i = m
    · by_cases h2 : j = m
      · omega
      · rw [h, ra_us, v j (by omega)] at e; exact absurd e.symm (nk j (by omega))
    · by_cases h2 : j = m
      · rw [h2, ra_us, v i (by omega)] at e; exact absurd e (nk i (by omega))
      · rw [v i (by omega), v j (by omega)] at e; exact O.2.1 i j (by omega) (by omega) e
  · by_cases h : k = y
    · exact ⟨m, by omega, by rw [ra_us]; exact h⟩
    · rw [ra_or_t, decide_eq_false h, Bool.or_false] at hb2
      obtain ⟨i, hi, e⟩ := O.2.2 y hy hb2
      exact ⟨i, by omega, by rw [v i hi]; exact e⟩
theorem rc_Tadd {P k : Nat} {c d p : Nat → Nat} (T : rb_T P c d p) {a b q : Nat} (h1 : 1 ≤ a) (h2 : a ≤ b) (h3 : b ≤ q) (h4 : q ≤ 15) : rb_T (P ||| 2 ^ k) (ra_u c k a) (ra_u d k b) (ra_u p k q) := by
  intro j hj hb
  by_cases e : j = k
  · subst e; rw [ra_us, ra_us, ra_us]; exact ⟨h1, h2, h3, h4⟩
  · rw [ra_un e, ra_un e, ra_un e]
    rw [ra_or_t, decide_eq_false (fun z => e z.symm), Bool.or_false] at hb
    exact T j hj hb
theorem rc_Orm {P e a k : Nat} {o : Nat → Nat} (hP : P < 32) (hk : k < 5) (O : rb_O P (e + 1) o) (ha : a < e + 1) (hka : o a = k) : rb_O (ra_rm P k) e (rc_sh (e - a) a o) := by
  have v1 : ∀ j, j < a → rc_sh (e - a) a o j = o j := fun j hj => by rw [rc_sh_t, if_neg (by omega)]
  have v2 : ∀ j, a ≤ j → j < e → rc_sh (e - a) a o j = o (j + 1) := fun j hj h => by rw [rc_sh_t, if_pos (by omega)]
  have ok : ∀ x, x < e + 1 → x ≠ a → o x < 5 ∧ (ra_rm P k).testBit (o x) = true := fun x hx hne => by
    have h1 := O.1 x hx
    refine ⟨h1.1, ?_⟩
    rw [ra_rm_t P hP k hk _ h1.1, h1.2, decide_eq_false (fun z => hne (O.2.1 x a hx ha (z.symm.trans hka.symm)))]
    rfl
  refine ⟨fun i hi => ?_, fun i j hi hj q => ?_, fun y hy hb => ?_⟩
  · by_cases h : i < a
    · rw [v1 i h]; exact ok i (by omega) (by omega)
    · rw [v2 i (by omega) hi]; exact ok (i + 1) (by omega) (by omega)
  · by_cases h : i < a
    · by_cases h2 : j < a
      · rw [v1 i h, v1 j h2] at q; exact O.2.1 i j (by omega) (by omega) q
      · rw [v1 i h, v2 j (by omega) hj] at q
        have := O.2.1 i (j + 1) (by omega) (by omega) q; omega
    · by_cases h2 : j < a
      · rw [v2 i (by omega) hi, v1 j h2] at q
        have := O.2.1 (i + 1) j (by omega) (by omega) q; omega
      · rw [v2 i (by omega) hi, v2 j (by omega) hj] at q
        have := O.2.1 (i + 1) (j + 1) (by omega) (by omega) q; omega
  · rw [ra_rm_t P hP k hk y hy, Bool.and_eq_true] at hb
    obtain ⟨i, hi, q⟩ := O.2.2 y hy hb.1
    have hne : i ≠ a := fun z => by
      have hky : k = y := by rw [← q, z]; exact hka.symm
      have h2 := hb.2
      rw [decide_eq_true hky] at h2; exact absurd h2 (by decide)
    by_cases h : i < a
    · exact ⟨i, by omega, by rw [v1 i h]; exact q⟩
    · refine ⟨i - 1, by omega, ?_⟩
      rw [v2 (i - 1) (by omega) (by omega), show i - 1 + 1 = i from by omega]; exact q
theorem rc_Trm {P k : Nat} {c d p : Nat → Nat} (hP : P < 32) (hk : k < 5) (T : rb_T P c d p) : rb_T (ra_rm P k) c d p := by
  intro j hj hb
  rw [ra_rm_t P hP k hk j hj, Bool.and_eq_true] at hb
  exact T j hj hb.1
def rc_pi (a i j : Nat) : Nat := if j = i then a else if j < i then (if j < a then j else j + 1) else (if j ≤ a then j - 1 else j)
def rc_pl (e a i k : Nat) (o : Nat → Nat) : Nat → Nat := ra_u (rc_sd (e - i) e (rc_sh (e - a) a o)) i k
theorem rc_pl_t {e a i k : Nat} {o : Nat → Nat} (ha : a ≤ e) (hi : i ≤ e) (hk : o a = k) {j : Nat} (hj : j ≤ e) : rc_pl e a i k o j = o (rc_pi a i j) := by
  unfold rc_pl rc_pi
  by_cases h : j = i
  · rw [if_pos h, h, ra_us]; exact hk.symm
  · rw [if_neg h, ra_un h, rc_sd_t _ _ _ _ (by omega)]
    by_cases h2 : j < i
    · rw [if_pos h2, if_neg (by omega), rc_sh_t]
      by_cases h3 : j < a
      · rw [if_neg (by omega), if_pos h3]
      · rw [if_pos (by omega), if_neg h3]
    · rw [if_neg h2, if_pos (by omega), rc_sh_t]
      by_cases h3 : j ≤ a
      · rw [if_neg (by omega), if_pos h3]
      · rw [if_pos (by omega), if_neg h3, show j - 1 + 1 = j from by omega]
theorem rc_Opl {P e a i k : Nat} {o : Nat → Nat} (O : rb_O P (e + 1) o) (ha : a < e + 1) (hi : i < e + 1) (hk : o a = k) : rb_O P (e + 1) (rc_pl e a i k o) := by
  have v : ∀ j, j < e + 1 → rc_pl e a i k o j = o (rc_pi a i j) := fun j hj => rc_pl_t (by omega) (by omega) hk (by omega)
  have b : ∀ j, j < e + 1 → rc_pi a i j < e + 1 := fun j hj => by
    unfold rc_pi
    repeat' split
    all_goals omega
  have inj : ∀ j j', j < e + 1 → j' < e + 1 → rc_pi a i j = rc_pi a i j' → j = j' := fun j j' hj hj' q => by
    unfold rc_pi at q
    by_cases h1 : j = i <;> by_cases h2 : j' = i <;> by_cases h3 : j < i <;> by_cases h4 : j' < i <;> by_cases h5 : j < a <;> by_cases h6 : j' < a <;> by_cases h7 : j ≤ a <;> by_cases h8 : j' ≤ a <;> simp only [h1, h2, h3, h4, h5, h6, h7, h8, if_true, if_false] at q <;> omega
  have sur : ∀ y, y < e + 1 → ∃ j, j < e + 1 ∧ rc_pi a i j = y := fun y hy => by
    by_cases h1 : y = a
    · exact ⟨i, hi, by unfold rc_pi; rw [if_pos rfl]; exact h1.symm⟩
    · by_cases h2 : y < a
      · by_cases h3 : y < i
        · exact ⟨y, hy, by unfold rc_pi; rw [if_neg (by omega), if_pos h3, if_pos h2]⟩
        · exact ⟨y + 1, by omega, by unfold rc_pi; rw [if_neg (by omega), if_neg (by omega), if_pos (by omega)]; omega⟩
      · by_cases h3 : y ≤ i
        · exact ⟨y - 1, by omega, by unfold rc_pi; rw [if_neg (by omega), if_pos (by omega), if_neg (by omega)]; omega⟩
        · exact ⟨y, hy, by unfold rc_pi; rw [if_neg (by omega), if_neg (by omega), if_neg (by omega)]⟩
  refine ⟨fun j hj => by rw [v j hj]; exact O.1 _ (b j hj), fun j j' hj hj' q => ?_, fun y hy hb => ?_⟩
  · rw [v j hj, v j' hj'] at q
    exact inj j j' hj hj' (O.2.1 _ _ (b j hj) (b j' hj') q)
  · obtain ⟨x, hx, q⟩ := O.2.2 y hy hb
    obtain ⟨j, hj, q2⟩ := sur x hx
    exact ⟨j, hj, by rw [v j hj, q2]; exact q⟩
theorem rc_x1 {e a i k : Nat} {o : Nat → Nat} (h : a ≤ i) (hi : i ≤ e) : ra_u (rc_sh (i - a) a o) i k = rc_pl e a i k o := by
  funext j
  unfold rc_pl
  by_cases h1 : j = i
  · rw [h1, ra_us, ra_us]
  · rw [ra_un h1, ra_un h1, rc_sd_t _ _ _ _ (by omega), rc_sh_t]
    by_cases h2 : e < j + (e - i) ∧ j ≤ e
    · rw [if_pos h2, rc_sh_t, if_neg (by omega), if_pos (by omega), show j - 1 + 1 = j from by omega]
    · rw [if_neg h2, rc_sh_t]
      by_cases h3 : a ≤ j ∧ j < a + (i - a)
      · rw [if_pos h3, if_pos (by omega)]
      · rw [if_neg h3, if_neg (by omega)]
theorem rc_x2 {e a i k : Nat} {o : Nat → Nat} (h : i ≤ a) (ha : a ≤ e) : ra_u (rc_sd (a - i) a o) i k = rc_pl e a i k o := by
  funext j
  unfold rc_pl
  by_cases h1 : j = i
  · rw [h1, ra_us, ra_us]
  · rw [ra_un h1, ra_un h1, rc_sd_t _ _ _ _ (by omega), rc_sd_t _ _ _ _ (by omega)]
    by_cases h2 : e < j + (e - i) ∧ j ≤ e
    · rw [if_pos h2, rc_sh_t]
      by_cases h3 : a < j + (a - i) ∧ j ≤ a
      · rw [if_pos h3, if_neg (by omega)]
      · rw [if_neg h3, if_pos (by omega), show j - 1 + 1 = j from by omega]
    · rw [if_neg h2, if_neg (by omega), rc_sh_t, if_neg (by omega)]
/-! numbers -/
theorem rc_num (v1 v2 v3 : Int32) : ((∀ post : Int32 → Prop, post 0 → wpX_numbersOk post v1 v2 v3) ∧ (∀ (post : Int32 → Prop) (fs : Int32) (th ac al ap ao ar lf gv : Nat → Int32), post 0 → wpY_fine post (fs, th, ac, al, ap, ao, ar, lf, gv) v1 v2 v3)) ∨
    (∃ a b q : Nat, 1 ≤ a ∧ a ≤ b ∧ b ≤ q ∧ q ≤ 15 ∧ v1 = nI a ∧ v2 = nI b ∧ v3 = nI q ∧ (∀ post : Int32 → Prop, post 1 → wpX_numbersOk post v1 v2 v3) ∧ (∀ (post : Int32 → Prop) (fs : Int32) (th ac al ap ao ar lf gv : Nat → Int32), post 1 → wpY_fine post (fs, th, ac, al, ap, ao, ar, lf, gv) v1 v2 v3)) := by
  by_cases h1 : v1 < 1
  · exact Or.inl ⟨fun _ h => br_t h1 h, fun _ _ _ _ _ _ _ _ _ _ h => br_t h1 h⟩
  · by_cases h2 : v2 < v1
    · exact Or.inl ⟨fun _ h => br_f h1 (br_t h2 h), fun _ _ _ _ _ _ _ _ _ _ h => br_f h1 (br_t h2 h)⟩
    · by_cases h3 : v3 < v2
      · exact Or.inl ⟨fun _ h => br_f h1 (br_f h2 (br_t h3 h)), fun _ _ _ _ _ _ _ _ _ _ h => br_f h1 (br_f h2 (br_t h3 h))⟩
      · by_cases h4 : 15 < v3
        · exact Or.inl ⟨fun _ h => br_f h1 (br_f h2 (br_f h3 (br_t h4 h))), fun _ _ _ _ _ _ _ _ _ _ h => br_f h1 (br_f h2 (br_f h3 (br_t h4 h)))⟩
        · refine Or.inr ?_
          have X : ∀ post : Int32 → Prop, post 1 → wpX_numbersOk post v1 v2 v3 := fun _ h => br_f h1 (br_f h2 (br_f h3 (br_f h4 h)))
          have Y : ∀ (post : Int32 → Prop) (fs : Int32) (th ac al ap ao ar lf gv : Nat → Int32), post 1 → wpY_fine post (fs, th, ac, al, ap, ao, ar, lf, gv) v1 v2 v3 := fun _ _ _ _ _ _ _ _ _ _ h => br_f h1 (br_f h2 (br_f h3 (br_f h4 h)))
          have i1 : (1 : Int32).toInt = 1 := by decide
          have i15 : (15 : Int32).toInt = 15 := by decide
          have i0 : (0 : Int32).toInt = 0 := by decide
          rw [Int32.lt_iff_toInt_lt] at h1 h2 h3 h4
          obtain ⟨a, ha, rfl⟩ := nI_of (x := v1) (by rw [Int32.lt_iff_toInt_lt]; omega)
          obtain ⟨b, hb, rfl⟩ := nI_of (x := v2) (by rw [Int32.lt_iff_toInt_lt]; omega)
          obtain ⟨q, hq, rfl⟩ := nI_of (x := v3) (by rw [Int32.lt_iff_toInt_lt]; omega)
          rw [nI_toInt ha] at h1 h2
          rw [nI_toInt hb] at h2 h3
          rw [nI_toInt hq] at h3 h4
          exact ⟨a, b, q, by omega, by omega, by omega, by omega, rfl, rfl, rfl, X, Y⟩
/-! walks of add -/
section
variable {P m : Nat} {c d p o : Nat → Nat} {fp fc fs : Int32} {th ac al ap ao bl am ar lf gv : Nat → Int32}
theorem rc_addX {post : Int32 → SX → Prop} {a b q k0 : Nat} (hP : P < 32) (hm : m < 5) (ha : a < 16) (hb : b < 16) (hq : q < 16) (hk : k0 < 5) (h0 : P.testBit k0 = false) (h1 : ∀ j, j < k0 → P.testBit j = true)
    (hp : post (nI k0) (nI (P ||| 2 ^ k0), nI (m + 1), ra_f (ra_u c k0 a), ra_f (ra_u d k0 b), ra_f (ra_u p k0 q), ra_f (ra_u o m k0), bl, am)) :
    ∀ n k, k ≤ k0 → k0 - k < n → wX_add_14 post (nI a) (nI b) (nI q) (nI P) (nI m) (ra_f c) (ra_f d) (ra_f p) (ra_f o) bl am n (nI k) := by
  intro n
  induction n with
  | zero => intro k _ h; omega
  | succ n ih =>
    intro k hk1 hn
    refine pk_le 5 k (fun h => absurd h (by omega)) (fun _ => xa_has hP (by omega) (fun hz => br_f ra_10 (nm_r (nI_1 k) ?_)) (fun hz => br_t rfl ?_)) rfl rfl (by omega) (by omega)
    · have : k ≠ k0 := fun e => by rw [e, h0] at hz; exact absurd hz (by decide)
      exact ih (k + 1) (by omega) (by omega)
    · have e : k = k0 := by
        by_cases z : k < k0
        · rw [h1 k z] at hz; exact absurd hz (by decide)
        · omega
      subst e
      refine nm_r (ra_orI P hP k hk) ⟨vp_in_nI hk (by omega), nm_r (e' := ra_f (ra_u c k a)) ?_ ⟨vp_in_nI hk (by omega), nm_r (e' := ra_f (ra_u d k b)) ?_ ⟨vp_in_nI hk (by omega), nm_r (e' := ra_f (ra_u p k q)) ?_ ⟨vp_in_nI hm (by omega), nm_r (e' := ra_f (ra_u o m k)) ?_ (nm_r (nI_1 m) hp)⟩⟩⟩⟩
      · rw [ra_nb2 ha]; exact ra_fuk c (by omega) a
      · rw [ra_nb2 hb]; exact ra_fuk d (by omega) b
      · rw [ra_nb2 hq]; exact ra_fuk p (by omega) q
      · rw [ra_nb2 (by omega)]; exact ra_fuk o (by omega) k
theorem rc_addXF {post : Int32 → SX → Prop} {x1 x2 x3 : Int32} (hP : P < 32) (h1 : ∀ j, j < 5 → P.testBit j = true)
    (hp : post (-2) (nI P, fc, ac, al, ap, ao, bl, am)) :
    ∀ n k, k ≤ 5 → 5 - k < n → wX_add_14 post x1 x2 x3 (nI P) fc ac al ap ao bl am n (nI k) := by
  intro n
  induction n with
  | zero => intro k _ h; omega
  | succ n ih =>
    intro k hk1 hn
    refine pk_le 5 k (fun h => hp) (fun h => xa_has hP (by omega) (fun hz => br_f ra_10 (nm_r (nI_1 k) (ih (k + 1) (by omega) (by omega)))) (fun hz => absurd ((h1 k h).symm.trans hz) (by decide))) rfl rfl (by omega) (by omega)
theorem rc_addY {post : Int32 → SY → Prop} {a b q k0 : Nat} (hm : m < 5) (hk : k0 < 5) (h0 : P.testBit k0 = false) (h1 : ∀ j, j < k0 → P.testBit j = true)
    (hp : post (nI k0) (nI (m + 1), ra_t (P ||| 2 ^ k0), ra_f (ra_u c k0 a), ra_f (ra_u d k0 b), ra_f (ra_u p k0 q), ra_f (ra_u o m k0), ar, lf, gv)) :
    ∀ n k, k ≤ k0 → k0 - k < n → wY_add_15 post (nI a) (nI b) (nI q) (nI m) (ra_t P) (ra_f c) (ra_f d) (ra_f p) (ra_f o) ar lf gv n (nI k) := by
  intro n
  induction n with
  | zero => intro k _ h; omega
  | succ n ih =>
    intro k hk1 hn
    refine pk_le 5 k (fun h => absurd h (by omega)) (fun h5 => ⟨vp_in_nI h5 (by omega), br_c (fun z => ?_) (fun z => nm_r (nI_1 k) ?_)⟩) rfl rfl (by omega) (by omega)
    · have hz := (ya_th h5).mp z
      have e : k = k0 := by
        by_cases y : k < k0
        · rw [h1 k y] at hz; exact absurd hz (by decide)
        · omega
      subst e
      exact ⟨vp_in_nI hk (by omega), nm_r (ra_t1 P hk) ⟨vp_in_nI hk (by omega), nm_r (ra_fuk c (by omega) a) ⟨vp_in_nI hk (by omega), nm_r (ra_fuk d (by omega) b) ⟨vp_in_nI hk (by omega), nm_r (ra_fuk p (by omega) q) ⟨vp_in_nI hm (by omega), nm_r (ra_fuk o (by omega) k) (nm_r (nI_1 m) hp)⟩⟩⟩⟩⟩
    · have : k ≠ k0 := fun e => z ((ya_th h5).mpr (by rw [e]; exact h0))
      exact ih (k + 1) (by omega) (by omega)
theorem rc_addYF {post : Int32 → SY → Prop} {x1 x2 x3 : Int32} (h1 : ∀ j, j < 5 → P.testBit j = true)
    (hp : post (-2) (fs, ra_t P, ac, al, ap, ao, ar, lf, gv)) :
    ∀ n k, k ≤ 5 → 5 - k < n → wY_add_15 post x1 x2 x3 fs (ra_t P) ac al ap ao ar lf gv n (nI k) := by
  intro n
  induction n with
  | zero => intro k _ h; omega
  | succ n ih =>
    intro k hk1 hn
    refine pk_le 5 k (fun h => hp) (fun h => ⟨vp_in_nI h (by omega), br_c (fun z => absurd ((h1 k h).symm.trans ((ya_th h).mp z)) (by decide)) (fun z => nm_r (nI_1 k) (ih (k + 1) (by omega) (by omega)))⟩) rfl rfl (by omega) (by omega)
/-! walks of remove and place -/
theorem rc_find2 {post : Int32 → Prop} {a k : Nat} (hm : m ≤ 5) (ho : ∀ i, i < m → o i < 5) (hk : k < 5) (ha : a < m) (he : o a = k) (hf : ∀ i, i < a → o i ≠ k) (hp : post (nI a)) :
    ∀ n i, i ≤ a → a - i < n → wY_find_2 post (nI k) (nI m) th ac al ap (ra_f o) ar lf gv n (nI i) := by
  intro n
  induction n with
  | zero => intro i _ h; omega
  | succ n ih =>
    intro i hi hn
    have hoi := ho i (by omega)
    refine pk_le m i (fun h => absurd h (by omega)) (fun h => ⟨vp_in_nI (by omega) (by omega), pk_eq (o i) k (fun e => ?_) (fun e => nm_r (nI_1 i) ?_) (ra_fk (by omega)) rfl (by omega) (by omega)⟩) rfl rfl (by omega) (by omega)
    · have e2 : i = a := by
        by_cases z : i < a
        · exact absurd e (hf i z)
        · omega
      rw [e2]; exact hp
    · have z : i ≠ a := fun z => e (by rw [z]; exact he)
      exact ih (i + 1) (by omega) (by omega)
theorem rc_find {post : Int32 → Prop} {a k : Nat} (hm : m ≤ 5) (ho : ∀ i, i < m → o i < 5) (hk : k < 5) (ha : a < m) (he : o a = k) (hf : ∀ i, i < a → o i ≠ k) (hp : post (nI a)) :
    wpY_find post (nI m, th, ac, al, ap, ra_f o, ar, lf, gv) (nI k) :=
  ⟨a + 1, rc_find2 hm ho hk ha he hf hp (a + 1) 0 (by omega) (by omega)⟩
theorem rc_rm28 {post : Int32 → SX → Prop} {k e : Nat} (hP : P < 32) (hk : k < 5) (he : e < 5) :
    ∀ n i (o : Nat → Nat), i + n = e → (∀ j, j ≤ e → o j < 5) → post 1 (nI (ra_rm P k), nI e, ac, al, ap, ra_f (rc_sh n i o), bl, am) → wX_remove_28 post (nI k) (nI P) (nI e) (n + 1) (nI i) ac al ap (ra_f o) bl am := by
  intro n
  induction n with
  | zero => intro i o hi ho hp; exact pk_le e i (fun _ => nm_r (ra_rmI P hP k hk) hp) (fun h => absurd h (by omega)) rfl rfl (by omega) (by omega)
  | succ n ih =>
    intro i o hi ho hp
    refine pk_le e i (fun h => absurd h (by omega)) (fun h => ⟨?_, vp_in_nI (by omega) (by omega), nm_r (e' := ra_f (ra_u o i (o (i + 1)))) ?_ (nm_r (nI_1 i) (ih (i + 1) _ (by omega) (fun j hj => ?_) hp))⟩) rfl rfl (by omega) (by omega)
    · rw [nI_1]; exact vp_in_nI (by omega) (by omega)
    · rw [nI_1, ra_fk (by omega), ra_nb (by have := ho (i + 1) (by omega); omega)]; exact ra_fuk o (by omega) _
    · by_cases z : j = i
      · rw [z, ra_us]; exact ho _ (by omega)
      · rw [ra_un z]; exact ho j hj
theorem rc_to2 {post : SY → Prop} {e : Nat} (he : e < 5) :
    ∀ n i (o : Nat → Nat), i + n = e → post (nI e, th, ac, al, ap, ra_f (rc_sh n i o), ar, lf, gv) → wY_takeOut_2 post (nI (e + 1)) (n + 1) (nI i) th ac al ap (ra_f o) ar lf gv := by
  intro n
  induction n with
  | zero => intro i o hi hp; exact pk_le (e + 1) (i + 1) (fun _ => nm_r (nI_pred e) hp) (fun h => absurd h (by omega)) rfl (nI_1 i) (by omega) (by omega)
  | succ n ih =>
    intro i o hi hp
    refine pk_le (e + 1) (i + 1) (fun h => absurd h (by omega)) (fun h => ⟨?_, vp_in_nI (by omega) (by omega), nm_r (e' := ra_f (ra_u o i (o (i + 1)))) ?_ (nm_r (nI_1 i) (ih (i + 1) _ (by omega) hp))⟩) rfl (nI_1 i) (by omega) (by omega)
    · rw [nI_1]; exact vp_in_nI (by omega) (by omega)
    · rw [nI_1, ra_fk (by omega)]; exact ra_fuk o (by omega) _
theorem rc_to {post : SY → Prop} {e a : Nat} (he : e < 5) (ha : a ≤ e) (hp : post (nI e, th, ac, al, ap, ra_f (rc_sh (e - a) a o), ar, lf, gv)) : wpY_takeOut post (nI (e + 1), th, ac, al, ap, ra_f o, ar, lf, gv) (nI a) :=
  ⟨e - a + 1, rc_to2 he (e - a) a o (by omega) hp⟩
theorem rc_p53 {post : Int32 → SX → Prop} {k i : Nat} (hk : k < 5) (hi : i < 5) :
    ∀ n (o : Nat → Nat), i + n < 5 → (∀ j, j < 5 → i ≤ j → j < i + n → o j < 5) → post 1 (fp, fc, ac, al, ap, ra_f (ra_u (rc_sd n (i + n) o) i k), bl, am) → wX_place_53 post (nI k) (nI i) fp fc (n + 1) (nI (i + n)) ac al ap (ra_f o) bl am := by
  intro n
  induction n with
  | zero =>
    intro o _ _ hp
    refine pk_le (i + 0) i (fun _ => ⟨vp_in_nI hi (by omega), nm_r (e' := ra_f (ra_u o i k)) ?_ hp⟩) (fun h => absurd h (by omega)) rfl rfl (by omega) (by omega)
    rw [ra_nb2 (by omega)]; exact ra_fuk o (by omega) k
  | succ n ih =>
    intro o h5 ho hp
    have e1 : nI (i + (n + 1)) - 1 = nI (i + n) := nI_pred (i + n)
    have hoi := ho (i + n) (by omega) (by omega) (by omega)
    refine pk_le (i + (n + 1)) i (fun h => absurd h (by omega)) (fun _ => ⟨?_, vp_in_nI (by omega) (by omega), nm_r (e' := ra_f (ra_u o (i + (n + 1)) (o (i + n)))) ?_ (nm_r (pk_m1 (i + n)) (ih _ (by omega) (fun j hj h1 h2 => ?_) hp))⟩) rfl rfl (by omega) (by omega)
    · rw [e1]; exact vp_in_nI (by omega) (by omega)
    · rw [e1, ra_fk (by omega), ra_nb (by omega)]; exact ra_fuk o (by omega) _
    · rw [ra_un (by omega)]; exact ho j hj h1 (by omega)
theorem rc_p28 {post : Int32 → SX → Prop} {k i : Nat} (hk : k < 5) (hi : i < 5) :
    ∀ n a (o : Nat → Nat), a + n = i → (∀ j, j ≤ i → o j < 5) → post 1 (fp, fc, ac, al, ap, ra_f (ra_u (rc_sh n a o) i k), bl, am) → wX_place_28 post (nI k) (nI i) fp fc (n + 1) (nI a) ac al ap (ra_f o) bl am := by
  intro n
  induction n with
  | zero =>
    intro a o ha ho hp
    have e : a = i := by omega
    subst e
    exact pk_le a a (fun _ => ⟨1, rc_p53 hk hi 0 o (by omega) (fun j hj h1 h2 => by omega) hp⟩) (fun h => absurd h (by omega)) rfl rfl (by omega) (by omega)
  | succ n ih =>
    intro a o ha ho hp
    refine pk_le i a (fun h => absurd h (by omega)) (fun h => ⟨?_, vp_in_nI (by omega) (by omega), nm_r (e' := ra_f (ra_u o a (o (a + 1)))) ?_ (nm_r (nI_1 a) (ih (a + 1) _ (by omega) (fun j hj => ?_) hp))⟩) rfl rfl (by omega) (by omega)
    · rw [nI_1]; exact vp_in_nI (by omega) (by omega)
    · rw [nI_1, ra_fk (by omega), ra_nb (by have := ho (a + 1) (by omega); omega)]; exact ra_fuk o (by omega) _
    · by_cases z : j = a
      · rw [z, ra_us]; exact ho _ (by omega)
      · rw [ra_un z]; exact ho j hj
theorem rc_p28d {post : Int32 → SX → Prop} {k i a : Nat} (hk : k < 5) (hi : i ≤ a) (ha : a < 5) (ho : ∀ j, j ≤ a → o j < 5) (hp : post 1 (fp, fc, ac, al, ap, ra_f (ra_u (rc_sd (a - i) a o) i k), bl, am)) : wX_place_28 post (nI k) (nI i) fp fc 1 (nI a) ac al ap (ra_f o) bl am := by
  obtain ⟨n, rfl⟩ : ∃ n, a = i + n := ⟨a - i, by omega⟩
  rw [show i + n - i = n from by omega] at hp
  exact pk_le i (i + n) (fun _ => ⟨n + 1, rc_p53 hk (by omega) n o (by omega) (fun j hj h1 h2 => ho j (by omega)) hp⟩) (fun h => absurd h (by omega)) rfl rfl (by omega) (by omega)
theorem rc_p39 {post : Int32 → SY → Prop} {k i e : Nat} (hi : i < 5) (he : e < 5) :
    ∀ n (o : Nat → Nat), i + n < 5 → post 1 (nI (e + 1), th, ac, al, ap, ra_f (ra_u (rc_sd n (i + n) o) i k), ar, lf, gv) → wY_place_39 post (nI k) (nI i) (nI e) (n + 1) (nI (i + n)) th ac al ap (ra_f o) ar lf gv := by
  intro n
  induction n with
  | zero =>
    intro o _ hp
    exact pk_le (i + 0) i (fun _ => ⟨vp_in_nI hi (by omega), nm_r (e' := ra_f (ra_u o i k)) (ra_fuk o (by omega) k) (nm_r (nI_1 e) hp)⟩) (fun h => absurd h (by omega)) rfl rfl (by omega) (by omega)
  | succ n ih =>
    intro o h5 hp
    have e1 : nI (i + (n + 1)) - 1 = nI (i + n) := nI_pred (i + n)
    refine pk_le (i + (n + 1)) i (fun h => absurd h (by omega)) (fun _ => ⟨?_, vp_in_nI (by omega) (by omega), nm_r (e' := ra_f (ra_u o (i + (n + 1)) (o (i + n)))) ?_ (nm_r (pk_m1 (i + n)) (ih _ (by omega) hp))⟩) rfl rfl (by omega) (by omega)
    · rw [e1]; exact vp_in_nI (by omega) (by omega)
    · rw [e1, ra_fk (by omega)]; exact ra_fuk o (by omega) _
end
end
section
/-! the component's tables -/
def rd_S (f : Nat → Nat) : Nat → Nat
  | 0 => 0
  | n + 1 => rd_S f n + f n
theorem rd_S_c {f f' : Nat → Nat} : ∀ n, (∀ k, k < n → f k = f' k) → rd_S f n = rd_S f' n := by
  intro n
  induction n with
  | zero => intro _; rfl
  | succ n ih =>
    intro h
    show rd_S f n + f n = rd_S f' n + f' n
    rw [ih (fun k hk => h k (by omega)), h n (by omega)]
theorem rd_S_b {f : Nat → Nat} {M : Nat} : ∀ n, (∀ k, k < n → f k ≤ M) → rd_S f n ≤ n * M := by
  intro n
  induction n with
  | zero => intro _; exact Nat.zero_le _
  | succ n ih =>
    intro h
    have h1 := ih (fun k hk => h k (by omega))
    have h2 := h n (by omega)
    show rd_S f n + f n ≤ (n + 1) * M
    rw [Nat.succ_mul]; omega
def rd_cb (g : Nat → Nat → Bool) (P S k : Nat) : Bool := (ra_df P S).testBit k && (decide (ra_df S P = 0) && g k S)
def rd_fb (g : Nat → Nat → Bool) (P : Nat) (B : Nat → Nat) (S k : Nat) : Nat := if rd_cb g P S k = true then B (S ||| 2 ^ k) else 0
def rd_eb (g : Nat → Nat → Bool) (P : Nat) (B : Nat → Nat) (S : Nat) : Prop := B S = (if S = P then 1 else 0) + rd_S (rd_fb g P B S) 5
def rd_ca (g : Nat → Nat → Bool) (P S k : Nat) : Bool := (S &&& P).testBit k && g k (ra_rm S k &&& P)
def rd_fa (g : Nat → Nat → Bool) (P : Nat) (A : Nat → Nat) (S k : Nat) : Nat := if rd_ca g P S k = true then A (ra_rm S k) else 0
def rd_ea (g : Nat → Nat → Bool) (P : Nat) (A : Nat → Nat) (S : Nat) : Prop := A S = (if S = 0 then 1 else 0) + rd_S (rd_fa g P A S) 5
theorem rd_fb0 {g : Nat → Nat → Bool} {P S k : Nat} {B : Nat → Nat} (h : rd_cb g P S k = false) : rd_fb g P B S k = 0 := if_neg (by rw [h]; decide)
theorem rd_fb1 {g : Nat → Nat → Bool} {P S k : Nat} {B : Nat → Nat} (h : rd_cb g P S k = true) : rd_fb g P B S k = B (S ||| 2 ^ k) := if_pos h
theorem rd_fa0 {g : Nat → Nat → Bool} {P S k : Nat} {A : Nat → Nat} (h : rd_ca g P S k = false) : rd_fa g P A S k = 0 := if_neg (by rw [h]; decide)
theorem rd_fa1 {g : Nat → Nat → Bool} {P S k : Nat} {A : Nat → Nat} (h : rd_ca g P S k = true) : rd_fa g P A S k = A (ra_rm S k) := if_pos h
theorem rd_cbk {g : Nat → Nat → Bool} {P S k : Nat} (hP : P < 32) (hS : S < 32) (hk : k < 5) (h : rd_cb g P S k = true) : P.testBit k = true ∧ S.testBit k = false ∧ rb_s S P ∧ g k S = true := by
  unfold rd_cb at h
  rw [Bool.and_eq_true, Bool.and_eq_true, ra_df_t P hP S hS k hk, Bool.and_eq_true, decide_eq_true_eq] at h
  obtain ⟨⟨h1, h2⟩, h3, h4⟩ := h
  refine ⟨h1, ?_, (ra_df0 S hS P hP).mp h3, h4⟩
  cases hb : S.testBit k
  · rfl
  · rw [hb] at h2; exact absurd h2 (by decide)
theorem rd_cbm {g : Nat → Nat → Bool} {P S k : Nat} (hP : P < 32) (hS : S < 32) (hk : k < 5) (h1 : P.testBit k = true) (h2 : S.testBit k = false) (h3 : rb_s S P) : rd_cb g P S k = g k S := by
  unfold rd_cb
  rw [ra_df_t P hP S hS k hk, h1, h2, decide_eq_true ((ra_df0 S hS P hP).mpr h3)]
  rfl
theorem rd_cak {g : Nat → Nat → Bool} {P S k : Nat} (h : rd_ca g P S k = true) : S.testBit k = true ∧ P.testBit k = true ∧ g k (ra_rm S k &&& P) = true := by
  unfold rd_ca at h
  rw [Bool.and_eq_true, ra_and_t, Bool.and_eq_true] at h
  exact ⟨h.1.1, h.1.2, h.2⟩
/-! bounds -/
theorem rd_Bb {g : Nat → Nat → Bool} {P : Nat} {B : Nat → Nat} (hP : P < 32) (E : ∀ S, S < 32 → rd_eb g P B S) : ∀ n S, S < 32 → 5 - ra_cn S = n → B S ≤ 6 ^ n := by
  intro n
  induction n with
  | zero =>
    intro S hS hn
    have h := E S hS
    have z : rd_S (rd_fb g P B S) 5 ≤ 5 * 0 := rd_S_b 5 (fun k hk => by
      by_cases h : rd_cb g P S k = true
      · have h2 := ra_cn_lt S hS k hk (rd_cbk hP hS hk h).2.1
        have := ra_cn_le S hS
        omega
      · rw [rd_fb0 (ra_nf h)]; exact Nat.le_refl 0)
    unfold rd_eb at h
    have : (if S = P then 1 else 0) ≤ 1 := by split <;> omega
    rw [h]
    show _ ≤ 1
    omega
  | succ n ih =>
    intro S hS hn
    have h := E S hS
    have z : rd_S (rd_fb g P B S) 5 ≤ 5 * 6 ^ n := rd_S_b 5 (fun k hk => by
      by_cases h : rd_cb g P S k = true
      · rw [rd_fb1 h]
        have h2 := ra_cn_or S hS k hk (rd_cbk hP hS hk h).2.1
        exact ih _ (ra_or_lt S hS k hk) (by omega)
      · rw [rd_fb0 (ra_nf h)]; exact Nat.zero_le _)
    unfold rd_eb at h
    have h1 : (if S = P then 1 else 0) ≤ 1 := by split <;> omega
    have h6 : 1 ≤ 6 ^ n := Nat.one_le_pow _ _ (by decide)
    rw [h, Nat.pow_succ]
    omega
theorem rd_Bl {g : Nat → Nat → Bool} {P : Nat} {B : Nat → Nat} (hP : P < 32) (E : ∀ S, S < 32 → rd_eb g P B S) {S : Nat} (hS : S < 32) : B S ≤ 7776 :=
  Nat.le_trans (rd_Bb hP E _ S hS rfl) (Nat.pow_le_pow_right (n := 6) (j := 5) (by decide) (by omega))
theorem rd_Ab {g : Nat → Nat → Bool} {P : Nat} {A : Nat → Nat} (E : ∀ S, S < 32 → rd_ea g P A S) : ∀ n S, S < 32 → ra_cn S = n → A S ≤ 6 ^ n := by
  intro n
  induction n with
  | zero =>
    intro S hS hn
    have h := E S hS
    have z : rd_S (rd_fa g P A S) 5 ≤ 5 * 0 := rd_S_b 5 (fun k hk => by
      by_cases h : rd_ca g P S k = true
      · have h2 := ra_cn_pos S hS k hk (rd_cak h).1
        omega
      · rw [rd_fa0 (ra_nf h)]; exact Nat.le_refl 0)
    unfold rd_ea at h
    have : (if S = 0 then 1 else 0) ≤ 1 := by split <;> omega
    rw [h]
    show _ ≤ 1
    omega
  | succ n ih =>
    intro S hS hn
    have h := E S hS
    have z : rd_S (rd_fa g P A S) 5 ≤ 5 * 6 ^ n := rd_S_b 5 (fun k hk => by
      by_cases h : rd_ca g P S k = true
      · rw [rd_fa1 h]
        have h2 := ra_cn_rm S hS k hk (rd_cak h).1
        exact ih _ (ra_rm_lt S hS k hk) (by omega)
      · rw [rd_fa0 (ra_nf h)]; exact Nat.zero_le _)
    unfold rd_ea at h
    have h1 : (if S = 0 then 1 else 0) ≤ 1 := by split <;> omega
    have h6 : 1 ≤ 6 ^ n := Nat.one_le_pow _ _ (by decide)
    rw [h, Nat.pow_succ]
    omega
theorem rd_Al {g : Nat → Nat → Bool} {P : Nat} {A : Nat → Nat} (E : ∀ S, S < 32 → rd_ea g P A S) {S : Nat} (hS : S < 32) : A S ≤ 7776 :=
  Nat.le_trans (rd_Ab E _ S hS rfl) (Nat.pow_le_pow_right (n := 6) (j := 5) (by decide) (ra_cn_le S hS))
/-! walks of fill -/
section
variable {P m : Nat} {c d p o : Nat → Nat} {fp fc : Int32} {ac al ap ao bl am : Nat → Int32}
theorem rd_in {post : Int32 → Prop} {x : Int32} {S k : Nat} (hx : x = nI S) (hS : S < 32) (hk : k < 5) (h1 : S.testBit k = true → post 1) (h0 : S.testBit k = false → post 0) : wpX_in post x (nI k) := by
  subst hx; exact xa_in hS hk h1 h0
theorem rd_itu {post : Int32 → Prop} {x : Int32} {S k : Nat} (hx : x = nI S) (T : rb_T P c d p) (hk : k < 5) (hb : P.testBit k = true) (hS : S < 32) (hs : rb_s S P) (h0 : rb_in c d p k S = false → post 0) (h1 : rb_in c d p k S = true → post 1) :
    wpX_inTimeUnder post (fp, fc, ra_f c, ra_f d, ra_f p, ao, bl, am) (nI k) x := by
  subst hx
  refine xa_itu T hk hb hS hs ?_
  cases e : rb_in c d p k S
  · rw [ra_b0]; exact h0 e
  · rw [ra_b1]; exact h1 e
theorem rd_f28 {post : SX → Prop} {J : Int32 → (Nat → Int32) → (Nat → Int32) → (Nat → Int32) → (Nat → Int32) → (Nat → Int32) → (Nat → Int32) → Prop} {S i0 : Nat} {B : Nat → Nat} (hP : P < 32) (hS : S < 32) (T : rb_T P c d p)
    (hJ : J (nI S + (-1)) (ra_f c) (ra_f d) (ra_f p) ao (ra_f (ra_u B S (i0 + rd_S (rd_fb (rb_in c d p) P B S) 5))) am) :
    ∀ n k, k ≤ 5 → 5 - k < n → wX_fill_28 post J (nI S) (nI P) fc n (nI k) (ra_f c) (ra_f d) (ra_f p) ao (ra_f (ra_u B S (i0 + rd_S (rd_fb (rb_in c d p) P B S) k))) am := by
  intro n
  induction n with
  | zero => intro k _ h; omega
  | succ n ih =>
    intro k hk hn
    have K : ∀ v, k < 5 → rd_fb (rb_in c d p) P B S k = v → wX_fill_28 post J (nI S) (nI P) fc n (nI (k + 1)) (ra_f c) (ra_f d) (ra_f p) ao (ra_f (ra_u B S (i0 + (rd_S (rd_fb (rb_in c d p) P B S) k + v)))) am := by
      intro v hk5 e
      subst e; exact ih (k + 1) (by omega) (by omega)
    refine pk_le 5 k (fun h => ?_) (fun h => rd_in (ra_dfI P hP S hS) (ra_df_lt P hP S hS) h (fun hb => br_f ra_10 (pk_eq (ra_df S P) 0 (fun e => ?_) (fun e => nm_r (nI_1 k) (K 0 h ?_)) (ra_dfI S hS P hP) rfl ?_ (by omega))) (fun hb => br_t rfl (nm_r (nI_1 k) (K 0 h ?_)))) rfl rfl (by omega) (by omega)
    · have e : k = 5 := by omega
      subst e; exact nm_e hJ
    · have hb2 := hb
      rw [ra_df_t P hP S hS k h, Bool.and_eq_true] at hb2
      have hSk : S.testBit k = false := by
        cases q : S.testBit k
        · rfl
        · have := hb2.2; rw [q] at this; exact absurd this (by decide)
      have hs := (ra_df0 S hS P hP).mp e
      have ec := rd_cbm (g := rb_in c d p) hP hS h hb2.1 hSk hs
      have hgt := ra_or_gt S hS k h hSk
      have hlt := ra_or_lt S hS k h
      refine rd_itu rfl T h hb2.1 hS hs (fun z => br_t rfl (nm_r (nI_1 k) (K 0 h (rd_fb0 (ec.trans z))))) (fun z => br_f ra_10 ⟨vp_in_nI hS (by omega), ?_, vp_in_nI hS (by omega), nm_r ?_ (nm_r (nI_1 k) (K _ h (rd_fb1 (ec.trans z))))⟩)
      · rw [ra_orI S hS k h]; exact vp_in_nI hlt (by omega)
      · rw [ra_orI S hS k h, ra_fk (by omega), ra_fk (by omega), nI_add, ra_us, ra_un (by omega), ra_fuk _ (by omega), ra_uu, Nat.add_assoc]
    · unfold rd_fb rd_cb
      rw [decide_eq_false e, Bool.false_and, Bool.and_false]; rfl
    · have := ra_df_lt S hS P hP; omega
    · unfold rd_fb rd_cb
      rw [hb, Bool.false_and]; rfl
theorem rd_eb_s {g : Nat → Nat → Bool} {s i0 : Nat} {B : Nat → Nat} (hP : P < 32) (hs : s < 32) (h0 : i0 = if s = P then 1 else 0) (E : ∀ S, s + 1 ≤ S → S < 32 → rd_eb g P B S) :
    ∀ S, s ≤ S → S < 32 → rd_eb g P (ra_u B s (i0 + rd_S (rd_fb g P B s) 5)) S := by
  intro S h1 h2
  have un : ∀ v, rd_S (rd_fb g P (ra_u B s v) S) 5 = rd_S (rd_fb g P B S) 5 := fun v => rd_S_c 5 (fun k hk => by
    by_cases h : rd_cb g P S k = true
    · rw [rd_fb1 h, rd_fb1 h]
      have := ra_or_gt S h2 k hk (rd_cbk hP h2 hk h).2.1
      exact ra_un (by omega)
    · rw [rd_fb0 (ra_nf h), rd_fb0 (ra_nf h)])
  unfold rd_eb
  rw [un]
  by_cases e : S = s
  · rw [e, ra_us, h0]
  · rw [ra_un e]; exact E S (by omega) h2
theorem rd_f3 {post : SX → Prop} (hP : P < 32) (T : rb_T P c d p)
    (hp : ∀ B : Nat → Nat, (∀ S, S < 32 → rd_eb (rb_in c d p) P B S) → ∃ n, wX_fill_101 post (nI P) fc n 0 (ra_f c) (ra_f d) (ra_f p) ao (ra_f B) am) :
    ∀ s (B : Nat → Nat) (x : Int32), s ≤ 32 → x = nI s + (-1) → (∀ S, s ≤ S → S < 32 → rd_eb (rb_in c d p) P B S) → wX_fill_3 post (nI P) fc (s + 1) x (ra_f c) (ra_f d) (ra_f p) ao (ra_f B) am := by
  intro s
  induction s with
  | zero =>
    intro B x _ hx E
    have hx0 : x < 0 := by rw [hx]; decide
    exact br_t hx0 (hp B (fun S hS => E S (by omega) hS))
  | succ s ih =>
    intro B x hs hx E
    rw [pk_m1] at hx
    subst hx
    refine br_f (nI_pos (by omega)) (pk_eq s P (fun e => ⟨vp_in_nI (by omega) (by omega), nm_r (e' := ra_f (ra_u B s (1 + rd_S (rd_fb (rb_in c d p) P B s) 0))) (ra_fuk B (by omega) 1) ⟨6, rd_f28 hP (by omega) T ?_ 6 0 (by omega) (by omega)⟩⟩) (fun e => ⟨vp_in_nI (by omega) (by omega), nm_r (e' := ra_f (ra_u B s (0 + rd_S (rd_fb (rb_in c d p) P B s) 0))) (ra_fuk B (by omega) 0) ⟨6, rd_f28 hP (by omega) T ?_ 6 0 (by omega) (by omega)⟩⟩) rfl rfl (by omega) (by omega))
    · exact ih _ _ (by omega) rfl (rd_eb_s hP (by omega) (if_pos e).symm E)
    · exact ih _ _ (by omega) rfl (rd_eb_s hP (by omega) (if_neg e).symm E)
theorem rd_f124 {post : SX → Prop} {J : Int32 → (Nat → Int32) → (Nat → Int32) → (Nat → Int32) → (Nat → Int32) → (Nat → Int32) → (Nat → Int32) → Prop} {S i0 : Nat} {A : Nat → Nat} (hP : P < 32) (hS : S < 32) (T : rb_T P c d p)
    (hJ : J (nI (S + 1)) (ra_f c) (ra_f d) (ra_f p) ao bl (ra_f (ra_u A S (i0 + rd_S (rd_fa (rb_in c d p) P A S) 5)))) :
    ∀ n k, k ≤ 5 → 5 - k < n → wX_fill_124 post J (nI S) (nI P) fc n (nI k) (ra_f c) (ra_f d) (ra_f p) ao bl (ra_f (ra_u A S (i0 + rd_S (rd_fa (rb_in c d p) P A S) k))) := by
  intro n
  induction n with
  | zero => intro k _ h; omega
  | succ n ih =>
    intro k hk hn
    have K : ∀ v, k < 5 → rd_fa (rb_in c d p) P A S k = v → wX_fill_124 post J (nI S) (nI P) fc n (nI (k + 1)) (ra_f c) (ra_f d) (ra_f p) ao bl (ra_f (ra_u A S (i0 + (rd_S (rd_fa (rb_in c d p) P A S) k + v)))) := by
      intro v hk5 e
      subst e; exact ih (k + 1) (by omega) (by omega)
    refine pk_le 5 k (fun h => ?_) (fun h => nm_r (ra_rmI S hS k h) (rd_in (ra_andI S hS P hP) (ra_and_lt S hS P hP) h (fun hb => br_f ra_10 ?_) (fun hb => br_t rfl (nm_r (nI_1 k) (K 0 h ?_))))) rfl rfl (by omega) (by omega)
    · have e : k = 5 := by omega
      subst e; exact nm_r (nI_1 S) hJ
    · have hb2 := hb
      rw [ra_and_t, Bool.and_eq_true] at hb2
      have hlt := ra_rm_lt S hS k h
      have hgt := ra_rm_gt S hS k h hb2.1
      have ec : rd_ca (rb_in c d p) P S k = rb_in c d p k (ra_rm S k &&& P) := by
        unfold rd_ca; rw [hb, Bool.true_and]
      refine rd_itu (ra_andI _ hlt P hP) T h hb2.2 (ra_and_lt _ hlt P hP) (fun j hj z => ?_) (fun z => br_t rfl (nm_r (nI_1 k) (K 0 h (rd_fa0 (ec.trans z))))) (fun z => br_f ra_10 ⟨vp_in_nI hS (by omega), vp_in_nI hlt (by omega), vp_in_nI hS (by omega), nm_r ?_ (nm_r (nI_1 k) (K _ h (rd_fa1 (ec.trans z))))⟩)
      · rw [ra_and_t, Bool.and_eq_true] at z; exact z.2
      · rw [ra_fk (by omega), ra_fk (by omega), nI_add, ra_us, ra_un (by omega), ra_fuk _ (by omega), ra_uu, Nat.add_assoc]
    · unfold rd_fa rd_ca
      rw [hb, Bool.false_and]; rfl
theorem rd_ea_s {g : Nat → Nat → Bool} {s i0 : Nat} {A : Nat → Nat} (hs : s < 32) (h0 : i0 = if s = 0 then 1 else 0) (E : ∀ S, S < s → rd_ea g P A S) :
    ∀ S, S < s + 1 → rd_ea g P (ra_u A s (i0 + rd_S (rd_fa g P A s) 5)) S := by
  intro S h1
  have un : ∀ v, rd_S (rd_fa g P (ra_u A s v) S) 5 = rd_S (rd_fa g P A S) 5 := fun v => rd_S_c 5 (fun k hk => by
    by_cases h : rd_ca g P S k = true
    · rw [rd_fa1 h, rd_fa1 h]
      have := ra_rm_gt S (by omega) k hk (rd_cak h).1
      exact ra_un (by omega)
    · rw [rd_fa0 (ra_nf h), rd_fa0 (ra_nf h)])
  unfold rd_ea
  rw [un]
  by_cases e : S = s
  · rw [e, ra_us, h0]
  · rw [ra_un e]; exact E S (by omega)
theorem rd_f101 {post : SX → Prop} (hP : P < 32) (T : rb_T P c d p)
    (hp : ∀ A : Nat → Nat, (∀ S, S < 32 → rd_ea (rb_in c d p) P A S) → post (nI P, fc, ra_f c, ra_f d, ra_f p, ao, bl, ra_f A)) :
    ∀ n s (A : Nat → Nat), s ≤ 32 → 32 - s < n → (∀ S, S < s → rd_ea (rb_in c d p) P A S) → wX_fill_101 post (nI P) fc n (nI s) (ra_f c) (ra_f d) (ra_f p) ao bl (ra_f A) := by
  intro n
  induction n with
  | zero => intro s A _ h; omega
  | succ n ih =>
    intro s A hs hn E
    refine pk_le 32 s (fun h => hp A (fun S hS => E S (by omega))) (fun h => pk_eq s 0 (fun e => ⟨vp_in_nI (by omega) (by omega), nm_r (e' := ra_f (ra_u A s (1 + rd_S (rd_fa (rb_in c d p) P A s) 0))) (ra_fuk A (by omega) 1) ⟨6, rd_f124 hP (by omega) T ?_ 6 0 (by omega) (by omega)⟩⟩) (fun e => ⟨vp_in_nI (by omega) (by omega), nm_r (e' := ra_f (ra_u A s (0 + rd_S (rd_fa (rb_in c d p) P A s) 0))) (ra_fuk A (by omega) 0) ⟨6, rd_f124 hP (by omega) T ?_ 6 0 (by omega) (by omega)⟩⟩) rfl rfl (by omega) (by omega)) rfl rfl (by omega) (by omega)
    · exact ih (s + 1) _ (by omega) (by omega) (rd_ea_s h (if_pos e).symm E)
    · exact ih (s + 1) _ (by omega) (by omega) (rd_ea_s h (if_neg e).symm E)
theorem rd_fill {post : SX → Prop} (hP : P < 32) (T : rb_T P c d p)
    (hp : ∀ B A : Nat → Nat, (∀ S, S < 32 → rd_eb (rb_in c d p) P B S) → (∀ S, S < 32 → rd_ea (rb_in c d p) P A S) → post (nI P, fc, ra_f c, ra_f d, ra_f p, ao, ra_f B, ra_f A)) :
    wpX_fill post (nI P, fc, ra_f c, ra_f d, ra_f p, ao, bl, am) := by
  obtain ⟨B0, rfl⟩ := ra_any bl
  obtain ⟨A0, rfl⟩ := ra_any am
  exact ⟨33, rd_f3 hP T (fun B EB => ⟨33, rd_f101 hP T (fun A EA => hp B A EB EA) 33 0 A0 (by omega) (by omega) (fun S hS => by omega)⟩) 32 B0 31 (by omega) (by decide) (fun S h1 h2 => by omega)⟩
/-! walks of arrange and canBeLast -/
def rd_cf (g : Nat → Nat → Bool) (P : Nat) (B : Nat → Nat) (U k : Nat) : Bool := (ra_df P U).testBit k && (decide (0 < B (U ||| 2 ^ k)) && g k U)
theorem rd_cfw {post : Int32 → Prop} {U k : Nat} {B : Nat → Nat} (hP : P < 32) (T : rb_T P c d p) (hB : ∀ S, S < 32 → B S ≤ 7776) (hU : U < 32) (hs : rb_s U P) (hk : k < 5) (h0 : rd_cf (rb_in c d p) P B U k = false → post 0) (h1 : rd_cf (rb_in c d p) P B U k = true → post 1) :
    wpX_canFollow post (nI P, fc, ra_f c, ra_f d, ra_f p, ao, ra_f B, am) (nI U) (nI k) := by
  have hlt := ra_or_lt U hU k hk
  have hb7 := hB _ hlt
  unfold wpX_canFollow
  refine rd_in (ra_dfI P hP U hU) (ra_df_lt P hP U hU) hk (fun hb => br_f ra_10 ⟨?_, pk_le (B (U ||| 2 ^ k)) 0 (fun z => h0 ?_) (fun z => ?_) ?_ rfl (by omega) (by omega)⟩) (fun hb => br_t rfl (h0 ?_))
  · rw [ra_orI U hU k hk]; exact vp_in_nI hlt (by omega)
  · unfold rd_cf; rw [decide_eq_false (by omega), Bool.false_and, Bool.and_false]
  · have ec : rd_cf (rb_in c d p) P B U k = rb_in c d p k U := by
      unfold rd_cf; rw [hb, decide_eq_true z]; rfl
    have hPk : P.testBit k = true := by
      rw [ra_df_t P hP U hU k hk, Bool.and_eq_true] at hb; exact hb.1
    exact rd_itu rfl T hk hPk hU hs (fun q => br_t rfl (h0 (ec.trans q))) (fun q => br_f ra_10 (h1 (ec.trans q)))
  · rw [ra_orI U hU k hk, ra_fk (by omega)]
  · unfold rd_cf; rw [hb, Bool.false_and]
def rd_Gr (cf : Nat → Nat → Bool) : Nat → List Nat → Prop
  | _, [] => True
  | U, k :: L => k < 5 ∧ cf U k = true ∧ (∀ k', k' < k → cf U k' = false) ∧ rd_Gr cf (U ||| 2 ^ k) L
def rd_wl : List Nat → Nat → (Nat → Nat) → (Nat → Nat)
  | [], _, o => o
  | k :: L, i, o => rd_wl L (i + 1) (ra_u o i k)
theorem rd_a29 {post : Int32 → SX → Prop} {J : Int32 → Int32 → (Nat → Int32) → (Nat → Int32) → (Nat → Int32) → (Nat → Int32) → (Nat → Int32) → (Nat → Int32) → Prop} {U i k0 : Nat} {B : Nat → Nat} (hP : P < 32) (T : rb_T P c d p) (hB : ∀ S, S < 32 → B S ≤ 7776) (hU : U < 32) (hs : rb_s U P) (hi : i < 5) (hk0 : k0 < 5)
    (h1 : rd_cf (rb_in c d p) P B U k0 = true) (h2 : ∀ k', k' < k0 → rd_cf (rb_in c d p) P B U k' = false)
    (hJ : J (nI (U ||| 2 ^ k0)) (nI (i + 1)) (ra_f c) (ra_f d) (ra_f p) (ra_f (ra_u o i k0)) (ra_f B) am) :
    ∀ n k, k ≤ k0 → k0 - k < n → wX_arrange_29 post J (nI U) (nI i) (nI P) fc (ra_f c) (ra_f d) (ra_f p) (ra_f o) (ra_f B) am n (nI k) := by
  have fin : wX_arrange_49 post J (nI U) (nI i) (nI k0) (nI P) fc (ra_f c) (ra_f d) (ra_f p) (ra_f o) (ra_f B) am := by
    refine ⟨vp_in_nI hi (by omega), nm_r (e' := ra_f (ra_u o i k0)) ?_ (nm_r (ra_orI U hU k0 hk0) (nm_r (nI_1 i) hJ))⟩
    rw [ra_nb2 (by omega)]; exact ra_fuk o (by omega) k0
  intro n
  induction n with
  | zero => intro k _ h; omega
  | succ n ih =>
    intro k hk hn
    refine pk_le 4 k (fun h => ?_) (fun h => rd_cfw hP T hB hU hs (by omega) (fun z => br_t rfl (nm_r (nI_1 k) ?_)) (fun z => br_f ra_10 ?_)) rfl rfl (by omega) (by omega)
    · have e : k = k0 := by omega
      rw [e]; exact fin
    · have : k ≠ k0 := fun e => by rw [e, h1] at z; exact absurd z (by decide)
      exact ih (k + 1) (by omega) (by omega)
    · have e : k = k0 := by
        by_cases y : k < k0
        · rw [h2 k y] at z; exact absurd z (by decide)
        · omega
      rw [e]; exact fin
theorem rd_a19 {post : Int32 → SX → Prop} {B : Nat → Nat} (hP : P < 32) (hm : m ≤ 5) (T : rb_T P c d p) (hB : ∀ S, S < 32 → B S ≤ 7776) :
    ∀ (L : List Nat) i U (o : Nat → Nat), i + L.length = m → U < 32 → rb_s U P → rd_Gr (rd_cf (rb_in c d p) P B) U L → post 1 (nI P, nI m, ra_f c, ra_f d, ra_f p, ra_f (rd_wl L i o), ra_f B, am) →
      wX_arrange_19 post (nI P) (nI m) (L.length + 1) (nI U) (nI i) (ra_f c) (ra_f d) (ra_f p) (ra_f o) (ra_f B) am := by
  intro L
  induction L with
  | nil =>
    intro i U o hi _ _ _ hp
    have hi' : i = m := by rw [← hi]; rfl
    exact pk_le m i (fun _ => hp) (fun h => absurd h (by omega)) rfl rfl (by omega) (by omega)
  | cons k L ih =>
    intro i U o hi hU hs G hp
    have hi' : i + (L.length + 1) = m := hi
    obtain ⟨hk, h1, h2, G'⟩ := G
    have hbit : P.testBit k = true := by
      unfold rd_cf at h1
      rw [Bool.and_eq_true, ra_df_t P hP U hU k hk, Bool.and_eq_true] at h1
      exact h1.1.1
    have hs' : rb_s (U ||| 2 ^ k) P := fun j hj z => by
      rw [ra_or_t, Bool.or_eq_true, decide_eq_true_eq] at z
      rcases z with z | z
      · exact hs j hj z
      · rw [← z]; exact hbit
    exact pk_le m i (fun h => absurd h (by omega)) (fun h => ⟨k + 1, rd_a29 hP T hB hU hs (by omega) hk h1 h2 (ih (i + 1) _ _ (by omega) (ra_or_lt U hU k hk) hs' G' hp) (k + 1) 0 (by omega) (by omega)⟩) rfl rfl (by omega) (by omega)
def rd_la (g : Nat → Nat → Bool) (P : Nat) (A : Nat → Nat) (k : Nat) : Bool := P.testBit k && (decide (0 < A (ra_rm P k)) && g k (ra_rm P k))
theorem rd_l8 {post : Int32 → SX → Prop} {A : Nat → Nat} (hP : P < 32) (T : rb_T P c d p) (hA : ∀ S, S < 32 → A S ≤ 7776)
    (hp : post (nI (rb_bs (rd_la (rb_in c d p) P A) 5)) (nI P, fc, ra_f c, ra_f d, ra_f p, ao, bl, ra_f A)) :
    ∀ n k, k ≤ 5 → 5 - k < n → wX_canBeLast_8 post (nI P) fc (ra_f c) (ra_f d) (ra_f p) ao bl (ra_f A) n (nI (rb_bs (rd_la (rb_in c d p) P A) k)) (nI k) := by
  intro n
  induction n with
  | zero => intro k _ h; omega
  | succ n ih =>
    intro k hk hn
    have J0 : k < 5 → rd_la (rb_in c d p) P A k = false → wX_canBeLast_8 post (nI P) fc (ra_f c) (ra_f d) (ra_f p) ao bl (ra_f A) n (nI (rb_bs (rd_la (rb_in c d p) P A) k)) (nI (k + 1)) := fun h5 h => by
      have J := ih (k + 1) (by omega) (by omega)
      have e : rb_bs (rd_la (rb_in c d p) P A) (k + 1) = rb_bs (rd_la (rb_in c d p) P A) k := if_neg (by rw [h]; decide)
      rw [e] at J; exact J
    have J1 : k < 5 → rd_la (rb_in c d p) P A k = true → wX_canBeLast_8 post (nI P) fc (ra_f c) (ra_f d) (ra_f p) ao bl (ra_f A) n (nI (rb_bs (rd_la (rb_in c d p) P A) k ||| 2 ^ k)) (nI (k + 1)) := fun h5 h => by
      have J := ih (k + 1) (by omega) (by omega)
      have e : rb_bs (rd_la (rb_in c d p) P A) (k + 1) = rb_bs (rd_la (rb_in c d p) P A) k ||| 2 ^ k := if_pos h
      rw [e] at J; exact J
    have hbl := rb_bs_lt (f := rd_la (rb_in c d p) P A) k (by omega)
    have z0 := ra_or0 _ hbl
    refine pk_le 5 k (fun h => ?_) (fun h => nm_r (ra_rmI P hP k h) (xa_has hP h (fun hb => br_f ra_10 ?_) (fun hb => br_t rfl (nm_r z0 (nm_r (nI_1 k) (J0 h ?_)))))) rfl rfl (by omega) (by omega)
    · have e : k = 5 := by omega
      subst e; exact hp
    · have hlt := ra_rm_lt P hP k h
      have hA7 := hA _ hlt
      refine ⟨vp_in_nI hlt (by omega), pk_le (A (ra_rm P k)) 0 (fun z => nm_r z0 (nm_r (nI_1 k) (J0 h ?_))) (fun z => ?_) (ra_fk (by omega)) rfl (by omega) (by omega)⟩
      · unfold rd_la; rw [decide_eq_false (by omega), Bool.false_and, Bool.and_false]
      · have ec : rd_la (rb_in c d p) P A k = rb_in c d p k (ra_rm P k) := by
          unfold rd_la; rw [hb, decide_eq_true z]; rfl
        refine rd_itu rfl T h hb hlt (fun j hj q => ?_) (fun q => br_t rfl (nm_r z0 (nm_r (nI_1 k) (J0 h (ec.trans q))))) (fun q => br_f ra_10 (nm_r (ra_orI _ hbl k h) (nm_r (nI_1 k) (J1 h (ec.trans q)))))
        rw [ra_rm_t P hP k h j hj, Bool.and_eq_true] at q; exact q.1
    · unfold rd_la; rw [hb, Bool.false_and]
end
end
section
/-! orders by their numbers: pure -/
def re_fa : Nat → Nat
  | 0 => 1
  | n + 1 => (n + 1) * re_fa n
theorem re_fa_b : ∀ n, n < 6 → 0 < re_fa n ∧ re_fa n ≤ 120 := by decide
theorem re_fa_p : ∀ n, 0 < re_fa n := by
  intro n
  induction n with
  | zero => exact Nat.one_pos
  | succ n ih => exact Nat.mul_pos (Nat.succ_pos n) ih
def re_un (M : Nat) : Nat → Nat → Nat → Nat
  | 0, _, _ => 0
  | n + 1, s, k => if M.testBit k = true then (if s = 0 then k else re_un M n (s - 1) (k + 1)) else re_un M n s (k + 1)
def re_ct (M : Nat) : Nat → Nat → Nat
  | 0, _ => 0
  | n + 1, k => (if M.testBit k = true then 1 else 0) + re_ct M n (k + 1)
theorem re_un_t {M n s k : Nat} (h : M.testBit k = true) : re_un M (n + 1) (s + 1) k = re_un M n s (k + 1) := by
  show (if M.testBit k = true then (if s + 1 = 0 then k else re_un M n (s + 1 - 1) (k + 1)) else _) = _
  rw [if_pos h, if_neg (by omega)]; rfl
theorem re_un_0 {M n k : Nat} (h : M.testBit k = true) : re_un M (n + 1) 0 k = k := by
  show (if M.testBit k = true then (if 0 = 0 then k else _) else _) = k
  rw [if_pos h, if_pos rfl]
theorem re_un_f {M n s k : Nat} (h : ¬ M.testBit k = true) : re_un M (n + 1) s k = re_un M n s (k + 1) := by
  show (if M.testBit k = true then _ else re_un M n s (k + 1)) = _
  rw [if_neg h]
theorem re_ct_t {M n k : Nat} (h : M.testBit k = true) : re_ct M (n + 1) k = re_ct M n (k + 1) + 1 := by
  show (if M.testBit k = true then 1 else 0) + re_ct M n (k + 1) = _
  rw [if_pos h]; omega
theorem re_ct_f {M n k : Nat} (h : ¬ M.testBit k = true) : re_ct M (n + 1) k = re_ct M n (k + 1) := by
  show (if M.testBit k = true then 1 else 0) + re_ct M n (k + 1) = _
  rw [if_neg h]; omega
theorem re_un_p {M : Nat} : ∀ n k s, s < re_ct M n k → k ≤ re_un M n s k ∧ re_un M n s k < k + n ∧ M.testBit (re_un M n s k) = true := by
  intro n
  induction n with
  | zero => intro k s h; exact absurd h (Nat.not_lt_zero s)
  | succ n ih =>
    intro k s h
    by_cases hb : M.testBit k = true
    · rw [re_ct_t hb] at h
      cases s with
      | zero => rw [re_un_0 hb]; exact ⟨by omega, by omega, hb⟩
      | succ s =>
        rw [re_un_t hb]
        have := ih (k + 1) s (by omega)
        exact ⟨by omega, by omega, this.2.2⟩
    · rw [re_ct_f hb] at h
      rw [re_un_f hb]
      have := ih (k + 1) s h
      exact ⟨by omega, by omega, this.2.2⟩
theorem re_un_s {M j : Nat} (hj : M.testBit j = true) : ∀ n k, k ≤ j → j < k + n → ∃ s, s < re_ct M n k ∧ re_un M n s k = j := by
  intro n
  induction n with
  | zero => intro k h1 h2; omega
  | succ n ih =>
    intro k h1 h2
    by_cases hb : M.testBit k = true
    · rw [re_ct_t hb]
      by_cases e : k = j
      · exact ⟨0, by omega, by rw [re_un_0 hb]; exact e⟩
      · obtain ⟨s, hs, q⟩ := ih (k + 1) (by omega) (by omega)
        exact ⟨s + 1, by omega, by rw [re_un_t hb]; exact q⟩
    · rw [re_ct_f hb]
      have e : k ≠ j := fun e => hb (by rw [e]; exact hj)
      obtain ⟨s, hs, q⟩ := ih (k + 1) (by omega) (by omega)
      exact ⟨s, hs, by rw [re_un_f hb]; exact q⟩
theorem re_un_m {M : Nat} : ∀ n k s s', s ≤ s' → s' < re_ct M n k → re_un M n s k ≤ re_un M n s' k := by
  intro n
  induction n with
  | zero => intro k s s' _ h; exact absurd h (Nat.not_lt_zero s')
  | succ n ih =>
    intro k s s' hs h
    by_cases hb : M.testBit k = true
    · cases s with
      | zero => rw [re_un_0 hb]; exact (re_un_p (n + 1) k s' h).1
      | succ s =>
        cases s' with
        | zero => omega
        | succ s' =>
          rw [re_ct_t hb] at h
          rw [re_un_t hb, re_un_t hb]
          exact ih (k + 1) s s' (by omega) (by omega)
    · rw [re_ct_f hb] at h
      rw [re_un_f hb, re_un_f hb]
      exact ih (k + 1) s s' hs h
theorem re_ct_cn : ∀ M, M < 32 → re_ct M 5 0 = ra_cn M := by decide +kernel
/-! sums -/
theorem re_S_sh {f : Nat → Nat} : ∀ c, rd_S f (c + 1) = f 0 + rd_S (fun s => f (s + 1)) c := by
  intro c
  induction c with
  | zero => show 0 + f 0 = f 0 + 0; omega
  | succ c ih =>
    show rd_S f (c + 1) + f (c + 1) = f 0 + (rd_S (fun s => f (s + 1)) c + f (c + 1))
    rw [ih]; omega
theorem re_S_add {f : Nat → Nat} (a : Nat) : ∀ b, rd_S f (a + b) = rd_S f a + rd_S (fun r => f (a + r)) b := by
  intro b
  induction b with
  | zero => rfl
  | succ b ih =>
    show rd_S f (a + b) + f (a + b) = rd_S f a + (rd_S (fun r => f (a + r)) b + f (a + b))
    rw [ih]; omega
theorem re_S_mul {f : Nat → Nat} (b : Nat) : ∀ q, rd_S f (q * b) = rd_S (fun i => rd_S (fun r => f (i * b + r)) b) q := by
  intro q
  induction q with
  | zero => rw [Nat.zero_mul]; rfl
  | succ q ih =>
    rw [Nat.succ_mul, re_S_add, ih]; rfl
theorem re_S_pos {f : Nat → Nat} : ∀ n, (0 < rd_S f n ↔ ∃ k, k < n ∧ 0 < f k) := by
  intro n
  induction n with
  | zero => exact ⟨fun h => absurd h (Nat.lt_irrefl 0), fun ⟨k, hk, _⟩ => by omega⟩
  | succ n ih =>
    show 0 < rd_S f n + f n ↔ _
    constructor
    · intro h
      by_cases z : 0 < f n
      · exact ⟨n, by omega, z⟩
      · obtain ⟨k, hk, e⟩ := ih.mp (by omega)
        exact ⟨k, by omega, e⟩
    · rintro ⟨k, hk, e⟩
      by_cases z : k = n
      · subst z; omega
      · have := ih.mpr ⟨k, by omega, e⟩; omega
def re_sm (M : Nat) (h : Nat → Nat) : Nat → Nat → Nat
  | 0, _ => 0
  | n + 1, k => (if M.testBit k = true then h k else 0) + re_sm M h n (k + 1)
theorem re_sum {M : Nat} {h : Nat → Nat} : ∀ n k, rd_S (fun s => h (re_un M n s k)) (re_ct M n k) = re_sm M h n k := by
  intro n
  induction n with
  | zero => intro k; rfl
  | succ n ih =>
    intro k
    show _ = (if M.testBit k = true then h k else 0) + re_sm M h n (k + 1)
    by_cases hb : M.testBit k = true
    · rw [re_ct_t hb, re_S_sh, if_pos hb, re_un_0 hb, ← ih (k + 1)]
      congr 1
      exact rd_S_c _ (fun s _ => by rw [re_un_t hb])
    · rw [re_ct_f hb, if_neg hb, ← ih (k + 1), Nat.zero_add]
      exact rd_S_c _ (fun s _ => by rw [re_un_f hb])
theorem re_sm_ps {M : Nat} {h : Nat → Nat} : re_sm M h 5 0 = rd_S (fun k => if M.testBit k = true then h k else 0) 5 := by
  show (if M.testBit 0 = true then h 0 else 0) + ((if M.testBit 1 = true then h 1 else 0) + ((if M.testBit 2 = true then h 2 else 0) + ((if M.testBit 3 = true then h 3 else 0) + ((if M.testBit 4 = true then h 4 else 0) + 0)))) = 0 + (if M.testBit 0 = true then h 0 else 0) + (if M.testBit 1 = true then h 1 else 0) + (if M.testBit 2 = true then h 2 else 0) + (if M.testBit 3 = true then h 3 else 0) + (if M.testBit 4 = true then h 4 else 0)
  omega
/-! lists -/
def re_spl : Nat → Nat → Nat → List Nat
  | 0, _, _ => []
  | n + 1, M, code => re_un M 5 (code / re_fa n) 0 :: re_spl n (ra_rm M (re_un M 5 (code / re_fa n) 0)) (code % re_fa n)
def re_gl (g : Nat → Nat → Bool) : Nat → List Nat → Bool
  | _, [] => true
  | U, k :: L => g k U && re_gl g (U ||| 2 ^ k) L
def re_pm : Nat → List Nat → Prop
  | M, [] => M = 0
  | M, k :: L => k < 5 ∧ M.testBit k = true ∧ re_pm (ra_rm M k) L
theorem re_q {n code : Nat} (h : code < re_fa (n + 1)) : code / re_fa n < n + 1 := by
  have e : re_fa (n + 1) = (n + 1) * re_fa n := rfl
  rw [e] at h
  exact (Nat.div_lt_iff_lt_mul (re_fa_p n)).mpr h
theorem re_k {n M code : Nat} (hM : M < 32) (hn : ra_cn M = n + 1) (h : code < re_fa (n + 1)) : re_un M 5 (code / re_fa n) 0 < 5 ∧ M.testBit (re_un M 5 (code / re_fa n) 0) = true := by
  have := re_un_p (M := M) 5 0 (code / re_fa n) (by rw [re_ct_cn M hM, hn]; exact re_q h)
  exact ⟨by omega, this.2.2⟩
theorem re_spl_pm : ∀ n M code, M < 32 → ra_cn M = n → code < re_fa n → re_pm M (re_spl n M code) := by
  intro n
  induction n with
  | zero => intro M code hM hn _; exact ra_cn_0 M hM hn
  | succ n ih =>
    intro M code hM hn h
    have hk := re_k hM hn h
    have h1 := ra_cn_rm M hM _ hk.1 hk.2
    exact ⟨hk.1, hk.2, ih _ _ (ra_rm_lt M hM _ hk.1) (by omega) (Nat.mod_lt _ (re_fa_p n))⟩
theorem re_spl_len : ∀ n M code, (re_spl n M code).length = n := by
  intro n
  induction n with
  | zero => intro M code; rfl
  | succ n ih => intro M code; show (re_spl n _ _).length + 1 = n + 1; rw [ih]
theorem re_pm_len : ∀ (L : List Nat) M, M < 32 → re_pm M L → L.length = ra_cn M := by
  intro L
  induction L with
  | nil => intro M _ h; have h' : M = 0 := h; subst h'; decide
  | cons k L ih =>
    intro M hM h
    have h1 := ra_cn_rm M hM k h.1 h.2.1
    have h2 := ih _ (ra_rm_lt M hM k h.1) h.2.2
    show L.length + 1 = _
    omega
theorem re_O : ∀ (L : List Nat) M, M < 32 → re_pm M L → rb_O M L.length (fun i => L.getD i 0) := by
  intro L
  induction L with
  | nil =>
    intro M hM h
    have h' : M = 0 := h
    subst h'
    refine ⟨fun i hi => absurd hi (Nat.not_lt_zero i), fun i j hi _ _ => absurd hi (Nat.not_lt_zero i), fun k _ hb => ?_⟩
    rw [Nat.zero_testBit] at hb; exact absurd hb (by decide)
  | cons k L ih =>
    intro M hM h
    obtain ⟨hk, hb, hr⟩ := h
    have O := ih _ (ra_rm_lt M hM k hk) hr
    have v0 : (k :: L).getD 0 0 = k := rfl
    have vs : ∀ i, (k :: L).getD (i + 1) 0 = L.getD i 0 := fun i => rfl
    have ok : ∀ i, i < L.length → L.getD i 0 < 5 ∧ M.testBit (L.getD i 0) = true ∧ k ≠ L.getD i 0 := fun i hi => by
      have h1 := O.1 i hi
      have h2 := h1.2
      have h3 : L.getD i 0 < 5 := h1.1
      rw [ra_rm_t M hM k hk _ h3, Bool.and_eq_true] at h2
      refine ⟨h3, h2.1, fun e => ?_⟩
      have h4 := h2.2
      rw [decide_eq_true e] at h4; exact absurd h4 (by decide)
    refine ⟨fun i hi => ?_, fun i j hi hj e => ?_, fun y hy hby => ?_⟩
    · cases i with
      | zero => exact ⟨hk, hb⟩
      | succ i => exact ⟨(ok i (Nat.lt_of_succ_lt_succ hi)).1, (ok i (Nat.lt_of_succ_lt_succ hi)).2.1⟩
    · cases i with
      | zero =>
        cases j with
        | zero => rfl
        | succ j => exact absurd e (ok j (Nat.lt_of_succ_lt_succ hj)).2.2
      | succ i =>
        cases j with
        | zero => exact absurd e.symm (ok i (Nat.lt_of_succ_lt_succ hi)).2.2
        | succ j => rw [O.2.1 i j (Nat.lt_of_succ_lt_succ hi) (Nat.lt_of_succ_lt_succ hj) e]
    · by_cases e : k = y
      · exact ⟨0, Nat.succ_pos _, e⟩
      · obtain ⟨i, hi, q⟩ := O.2.2 y hy (by rw [ra_rm_t M hM k hk y hy, hby, decide_eq_false e]; rfl)
        exact ⟨i + 1, Nat.succ_lt_succ hi, q⟩
theorem re_wl {o : Nat → Nat} : ∀ (L : List Nat) i (o : Nat → Nat), (∀ j, j < i → rd_wl L i o j = o j) ∧ (∀ j, j < L.length → rd_wl L i o (i + j) = L.getD j 0) := by
  intro L
  induction L with
  | nil => intro i o; exact ⟨fun j _ => rfl, fun j hj => absurd hj (Nat.not_lt_zero j)⟩
  | cons k L ih =>
    intro i o
    have h := ih (i + 1) (ra_u o i k)
    refine ⟨fun j hj => ?_, fun j hj => ?_⟩
    · show rd_wl L (i + 1) (ra_u o i k) j = o j
      rw [h.1 j (by omega), ra_un (by omega)]
    · show rd_wl L (i + 1) (ra_u o i k) (i + j) = _
      cases j with
      | zero => rw [h.1 (i + 0) (by omega)]; exact ra_us
      | succ j =>
        rw [show i + (j + 1) = i + 1 + j from by omega, h.2 j (Nat.lt_of_succ_lt_succ hj)]; rfl
/-! good rows -/
def re_mu (U : Nat) (f : Nat → Nat) : Nat → Nat
  | 0 => U
  | i + 1 => re_mu U f i ||| 2 ^ (f i)
theorem re_mu_0 (f : Nat → Nat) : ∀ i, re_mu 0 f i = rb_mk f i := by
  intro i
  induction i with
  | zero => rfl
  | succ i ih => show re_mu 0 f i ||| 2 ^ (f i) = rb_mk f i ||| 2 ^ (f i); rw [ih]
theorem re_mu_s (U k : Nat) (L : List Nat) : ∀ i, re_mu U (fun i => (k :: L).getD i 0) (i + 1) = re_mu (U ||| 2 ^ k) (fun i => L.getD i 0) i := by
  intro i
  induction i with
  | zero => rfl
  | succ i ih =>
    show re_mu U (fun i => (k :: L).getD i 0) (i + 1) ||| 2 ^ ((k :: L).getD (i + 1) 0) = re_mu (U ||| 2 ^ k) (fun i => L.getD i 0) i ||| 2 ^ (L.getD i 0)
    rw [ih]; rfl
theorem re_gl_t {g : Nat → Nat → Bool} : ∀ (L : List Nat) U, (re_gl g U L = true ↔ ∀ i, i < L.length → g (L.getD i 0) (re_mu U (fun i => L.getD i 0) i) = true) := by
  intro L
  induction L with
  | nil => intro U; exact ⟨fun _ i hi => absurd hi (Nat.not_lt_zero i), fun _ => rfl⟩
  | cons k L ih =>
    intro U
    show (g k U && re_gl g (U ||| 2 ^ k) L) = true ↔ _
    rw [Bool.and_eq_true, ih]
    constructor
    · rintro ⟨h1, h2⟩ i hi
      cases i with
      | zero => exact h1
      | succ i => rw [re_mu_s]; exact h2 i (Nat.lt_of_succ_lt_succ hi)
    · intro h
      refine ⟨h 0 (Nat.succ_pos _), fun i hi => ?_⟩
      have := h (i + 1) (Nat.succ_lt_succ hi)
      rw [re_mu_s] at this; exact this
theorem re_ag {g : Nat → Nat → Bool} {P : Nat} {L : List Nat} {w : Nat → Nat} (hP : P < 32) (h : re_pm P L) (hw : ∀ i, i < L.length → w i = L.getD i 0) : rb_ag P (rb_tk g w L.length) = re_gl g 0 L := by
  have O := re_O L P hP h
  rw [rb_ag_c (rb_tk_c hw)]
  apply ra_beq
  rw [rb_ag_t, re_gl_t]
  constructor
  · intro a i hi
    have h1 := O.1 i hi
    have h2 := a _ h1.1 h1.2
    rw [rb_tk_a (g := g) O hi] at h2
    rw [re_mu_0]; exact h2
  · intro a k hk hb
    obtain ⟨i, hi, e⟩ := O.2.2 k hk hb
    subst e
    rw [rb_tk_a (g := g) O hi]
    have := a i hi
    rw [re_mu_0] at this; exact this
/-! the number of good orders -/
def re_one (b : Bool) : Nat := if b = true then 1 else 0
def re_N (g : Nat → Nat → Bool) (n U M : Nat) : Nat := rd_S (fun code => re_one (re_gl g U (re_spl n M code))) (re_fa n)
theorem re_N_s {g : Nat → Nat → Bool} {n U M : Nat} (hM : M < 32) (hn : ra_cn M = n + 1) : re_N g (n + 1) U M = rd_S (fun k => if M.testBit k = true then (if g k U = true then re_N g n (U ||| 2 ^ k) (ra_rm M k) else 0) else 0) 5 := by
  rw [← re_sm_ps, ← re_sum, re_ct_cn M hM, hn]
  show rd_S _ ((n + 1) * re_fa n) = _
  rw [re_S_mul]
  refine rd_S_c _ (fun i hi => ?_)
  have hp := re_fa_p n
  have e : ∀ r, r < re_fa n → re_one (re_gl g U (re_spl (n + 1) M (i * re_fa n + r))) = re_one (g (re_un M 5 i 0) U && re_gl g (U ||| 2 ^ (re_un M 5 i 0)) (re_spl n (ra_rm M (re_un M 5 i 0)) r)) := fun r hr => by
    have e1 : (i * re_fa n + r) / re_fa n = i := by
      rw [Nat.mul_comm, Nat.mul_add_div hp, Nat.div_eq_of_lt hr, Nat.add_zero]
    have e2 : (i * re_fa n + r) % re_fa n = r := by
      rw [Nat.mul_comm, Nat.mul_add_mod, Nat.mod_eq_of_lt hr]
    show re_one (g (re_un M 5 ((i * re_fa n + r) / re_fa n) 0) U && re_gl g (U ||| 2 ^ (re_un M 5 ((i * re_fa n + r) / re_fa n) 0)) (re_spl n (ra_rm M (re_un M 5 ((i * re_fa n + r) / re_fa n) 0)) ((i * re_fa n + r) % re_fa n))) = _
    rw [e1, e2]
  rw [rd_S_c _ e]
  show _ = if g (re_un M 5 i 0) U = true then re_N g n (U ||| 2 ^ (re_un M 5 i 0)) (ra_rm M (re_un M 5 i 0)) else 0
  by_cases h : g (re_un M 5 i 0) U = true
  · rw [if_pos h, h]; rfl
  · rw [if_neg h, ra_nf h]
    have : rd_S (fun r => re_one (false && re_gl g (U ||| 2 ^ (re_un M 5 i 0)) (re_spl n (ra_rm M (re_un M 5 i 0)) r))) (re_fa n) ≤ re_fa n * 0 := rd_S_b _ (fun r _ => Nat.le_refl 0)
    omega
theorem re_df_or {P U k : Nat} (hP : P < 32) (hU : U < 32) (hk : k < 5) : ra_df P (U ||| 2 ^ k) = ra_rm (ra_df P U) k := by
  have h1 := ra_or_lt U hU k hk
  have h2 := ra_df_lt P hP U hU
  apply ra_ext _ (ra_df_lt P hP _ h1) _ (ra_rm_lt _ h2 k hk)
  intro j hj
  rw [ra_df_t P hP _ h1 j hj, ra_rm_t _ h2 k hk j hj, ra_df_t P hP U hU j hj, ra_or_t]
  cases P.testBit j <;> cases U.testBit j <;> cases decide (k = j) <;> rfl
theorem re_B {g : Nat → Nat → Bool} {P : Nat} {B : Nat → Nat} (hP : P < 32) (E : ∀ S, S < 32 → rd_eb g P B S) : ∀ n U, U < 32 → rb_s U P → ra_cn (ra_df P U) = n → B U = re_N g n U (ra_df P U) := by
  intro n
  induction n with
  | zero =>
    intro U hU hs hn
    have h0 := ra_cn_0 _ (ra_df_lt P hP U hU) hn
    have e : U = P := ra_ext U hU P hP (fun j hj => ra_beq ⟨hs j hj, (ra_df0 P hP U hU).mp h0 j hj⟩)
    have h := E U hU
    unfold rd_eb at h
    have z : rd_S (rd_fb g P B U) 5 ≤ 5 * 0 := rd_S_b 5 (fun k hk => by
      have : rd_cb g P U k = false := by unfold rd_cb; rw [h0, Nat.zero_testBit, Bool.false_and]
      rw [rd_fb0 this]; exact Nat.le_refl 0)
    rw [h, if_pos e]
    show _ = 0 + 1
    omega
  | succ n ih =>
    intro U hU hs hn
    have hd := ra_df_lt P hP U hU
    have ne : U ≠ P := fun e => by
      have : ra_df P U = 0 := (ra_df0 P hP U hU).mpr (fun j _ h => by rw [e]; exact h)
      have z0 : ra_cn 0 = 0 := by decide
      rw [this, z0] at hn
      omega
    have h := E U hU
    unfold rd_eb at h
    rw [h, if_neg ne, Nat.zero_add, re_N_s hd hn]
    refine rd_S_c 5 (fun k hk => ?_)
    by_cases hb : (ra_df P U).testBit k = true
    · have hb2 := hb
      rw [ra_df_t P hP U hU k hk, Bool.and_eq_true] at hb2
      have hU2 : U.testBit k = false := by
        cases q : U.testBit k
        · rfl
        · have := hb2.2; rw [q] at this; exact absurd this (by decide)
      have ec := rd_cbm (g := g) hP hU hk hb2.1 hU2 hs
      rw [if_pos hb]
      by_cases hg : g k U = true
      · rw [if_pos hg, rd_fb1 (ec.trans hg), ← re_df_or hP hU hk]
        have h1 := ra_cn_rm _ hd k hk hb
        refine ih _ (ra_or_lt U hU k hk) (fun j hj z => ?_) (by rw [re_df_or hP hU hk]; omega)
        rw [ra_or_t, Bool.or_eq_true, decide_eq_true_eq] at z
        rcases z with z | z
        · exact hs j hj z
        · rw [← z]; exact hb2.1
      · rw [if_neg hg, rd_fb0 (ec.trans (ra_nf hg))]
    · have : rd_cb g P U k = false := by unfold rd_cb; rw [ra_nf hb, Bool.false_and]
      rw [if_neg hb, rd_fb0 this]
theorem re_df_0 : ∀ P, P < 32 → ra_df P 0 = P := by decide +kernel
theorem re_s0 (P : Nat) : rb_s 0 P := fun j _ h => by rw [Nat.zero_testBit] at h; exact absurd h (by decide)
theorem re_B0 {g : Nat → Nat → Bool} {P : Nat} {B : Nat → Nat} (hP : P < 32) (E : ∀ S, S < 32 → rd_eb g P B S) : B 0 = re_N g (ra_cn P) 0 P := by
  have := re_B hP E (ra_cn P) 0 (by decide) (re_s0 P) (by rw [re_df_0 P hP])
  rw [re_df_0 P hP] at this; exact this
theorem re_N_pos {g : Nat → Nat → Bool} {n U M : Nat} : 0 < re_N g n U M ↔ ∃ code, code < re_fa n ∧ re_gl g U (re_spl n M code) = true := by
  unfold re_N
  rw [re_S_pos]
  constructor
  · rintro ⟨k, hk, h⟩
    refine ⟨k, hk, ra_nt (fun z => ?_)⟩
    rw [z] at h; exact absurd h (by decide)
  · rintro ⟨k, hk, h⟩
    exact ⟨k, hk, by rw [h]; decide⟩
/-! the first good order is the greedy one -/
theorem re_Gr {g : Nat → Nat → Bool} {P : Nat} {B : Nat → Nat} (hP : P < 32) (E : ∀ S, S < 32 → rd_eb g P B S) : ∀ n U code, U < 32 → rb_s U P → ra_cn (ra_df P U) = n → code < re_fa n → re_gl g U (re_spl n (ra_df P U) code) = true → (∀ code', code' < code → re_gl g U (re_spl n (ra_df P U) code') = false) → rd_Gr (rd_cf g P B) U (re_spl n (ra_df P U) code) := by
  intro n
  induction n with
  | zero => intro U code _ _ _ _ _ _; exact True.intro
  | succ n ih =>
    intro U code hU hs hn hc hg hmin
    have hd := ra_df_lt P hP U hU
    have hk := re_k hd hn hc
    have hp := re_fa_p n
    have hdm := Nat.div_add_mod' code (re_fa n)
    have hml := Nat.mod_lt code hp
    have gs : ∀ (i r : Nat), r < re_fa n → re_gl g U (re_spl (n + 1) (ra_df P U) (i * re_fa n + r)) = (g (re_un (ra_df P U) 5 i 0) U && re_gl g (U ||| 2 ^ (re_un (ra_df P U) 5 i 0)) (re_spl n (ra_rm (ra_df P U) (re_un (ra_df P U) 5 i 0)) r)) := fun i r hr => by
      have e1 : (i * re_fa n + r) / re_fa n = i := by
        rw [Nat.mul_comm, Nat.mul_add_div hp, Nat.div_eq_of_lt hr, Nat.add_zero]
      have e2 : (i * re_fa n + r) % re_fa n = r := by
        rw [Nat.mul_comm, Nat.mul_add_mod, Nat.mod_eq_of_lt hr]
      show (g (re_un (ra_df P U) 5 ((i * re_fa n + r) / re_fa n) 0) U && re_gl g (U ||| 2 ^ (re_un (ra_df P U) 5 ((i * re_fa n + r) / re_fa n) 0)) (re_spl n (ra_rm (ra_df P U) (re_un (ra_df P U) 5 ((i * re_fa n + r) / re_fa n) 0)) ((i * re_fa n + r) % re_fa n))) = _
      rw [e1, e2]
    have gc := gs (code / re_fa n) (code % re_fa n) hml
    rw [hdm, hg] at gc
    have gc2 := gc.symm
    rw [Bool.and_eq_true] at gc2
    have sub : ∀ k, k < 5 → (ra_df P U).testBit k = true → (U ||| 2 ^ k) < 32 ∧ rb_s (U ||| 2 ^ k) P ∧ ra_cn (ra_df P (U ||| 2 ^ k)) = n ∧ B (U ||| 2 ^ k) = re_N g n (U ||| 2 ^ k) (ra_rm (ra_df P U) k) := fun k hk5 hb => by
      have h1 := ra_cn_rm _ hd k hk5 hb
      have h2 : ra_cn (ra_df P (U ||| 2 ^ k)) = n := by rw [re_df_or hP hU hk5]; omega
      have hb2 := hb
      rw [ra_df_t P hP U hU k hk5, Bool.and_eq_true] at hb2
      have h3 : rb_s (U ||| 2 ^ k) P := fun j hj z => by
        rw [ra_or_t, Bool.or_eq_true, decide_eq_true_eq] at z
        rcases z with z | z
        · exact hs j hj z
        · rw [← z]; exact hb2.1
      have h4 := re_B hP E n _ (ra_or_lt U hU k hk5) h3 h2
      rw [re_df_or hP hU hk5] at h4
      exact ⟨ra_or_lt U hU k hk5, h3, h2, h4⟩
    have sk := sub _ hk.1 hk.2
    refine ⟨hk.1, ?_, fun k' hk' => ra_nf (fun z => ?_), ?_⟩
    · unfold rd_cf
      rw [hk.2, gc2.1, decide_eq_true (by rw [sk.2.2.2]; exact re_N_pos.mpr ⟨_, hml, gc2.2⟩)]
      rfl
    · unfold rd_cf at z
      rw [Bool.and_eq_true, Bool.and_eq_true, decide_eq_true_eq] at z
      obtain ⟨z1, z2, z3⟩ := z
      have sk' := sub k' (by omega) z1
      rw [sk'.2.2.2] at z2
      obtain ⟨r, hr, hg2⟩ := re_N_pos.mp z2
      obtain ⟨s, hs1, hs2⟩ := re_un_s z1 5 0 (by omega) (by omega)
      have hlt : s < code / re_fa n := by
        by_cases y : s < code / re_fa n
        · exact y
        · have := re_un_m (M := ra_df P U) 5 0 (code / re_fa n) s (by omega) hs1
          omega
      have g2 := gs s r hr
      rw [hs2, z3, hg2] at g2
      have hle : (s + 1) * re_fa n ≤ code / re_fa n * re_fa n := Nat.mul_le_mul_right _ hlt
      rw [Nat.succ_mul] at hle
      have := hmin (s * re_fa n + r) (by omega)
      rw [this] at g2; exact absurd g2 (by decide)
    · rw [← re_df_or hP hU hk.1]
      refine ih _ _ sk.1 sk.2.1 sk.2.2.1 hml ?_ (fun r hr => ?_)
      · rw [re_df_or hP hU hk.1]; exact gc2.2
      · have g2 := gs (code / re_fa n) r (by omega)
        rw [hmin _ (by omega), gc2.1, Bool.true_and] at g2
        rw [re_df_or hP hU hk.1]; exact g2.symm
end
section
/-! which tasks can be last: pure -/
theorem rf_rm_c {M j k : Nat} (hM : M < 32) (hj : j < 5) (hk : k < 5) : ra_rm (ra_rm M j) k = ra_rm (ra_rm M k) j := by
  have h1 := ra_rm_lt M hM j hj
  have h2 := ra_rm_lt M hM k hk
  apply ra_ext _ (ra_rm_lt _ h1 k hk) _ (ra_rm_lt _ h2 j hj)
  intro i hi
  rw [ra_rm_t _ h1 k hk i hi, ra_rm_t _ h2 j hj i hi, ra_rm_t M hM j hj i hi, ra_rm_t M hM k hk i hi]
  cases M.testBit i <;> cases decide (j = i) <;> cases decide (k = i) <;> rfl
theorem rf_rm_b {M j k : Nat} (hM : M < 32) (hj : j < 5) (hk : k < 5) : (ra_rm M j).testBit k = true ↔ M.testBit k = true ∧ j ≠ k := by
  rw [ra_rm_t M hM j hj k hk, Bool.and_eq_true, Bool.not_eq_true', decide_eq_false_iff_not]
theorem rf_app {k : Nat} (hk : k < 5) : ∀ (L : List Nat) M, M < 32 → (re_pm M (L ++ [k]) ↔ M.testBit k = true ∧ re_pm (ra_rm M k) L) := by
  intro L
  induction L with
  | nil =>
    intro M hM
    exact ⟨fun h => ⟨h.2.1, h.2.2⟩, fun h => ⟨hk, h.1, h.2⟩⟩
  | cons j L ih =>
    intro M hM
    constructor
    · rintro ⟨hj, hb, h⟩
      have h' : re_pm (ra_rm M j) (L ++ [k]) := h
      rw [ih _ (ra_rm_lt M hM j hj), rf_rm_b hM hj hk] at h'
      refine ⟨h'.1.1, hj, (rf_rm_b hM hk hj).mpr ⟨hb, fun e => h'.1.2 e.symm⟩, ?_⟩
      rw [rf_rm_c hM hk hj]; exact h'.2
    · rintro ⟨hb, hj, hbj, h⟩
      rw [rf_rm_b hM hk hj] at hbj
      refine ⟨hj, hbj.1, ?_⟩
      show re_pm (ra_rm M j) (L ++ [k])
      rw [ih _ (ra_rm_lt M hM j hj), rf_rm_b hM hj hk]
      refine ⟨⟨hb, fun e => hbj.2 e.symm⟩, ?_⟩
      rw [rf_rm_c hM hj hk]; exact h
def rf_ul : Nat → List Nat → Nat
  | U, [] => U
  | U, k :: L => rf_ul (U ||| 2 ^ k) L
theorem rf_gl {g : Nat → Nat → Bool} {k : Nat} : ∀ (L : List Nat) U, re_gl g U (L ++ [k]) = (re_gl g U L && g k (rf_ul U L)) := by
  intro L
  induction L with
  | nil => intro U; show (g k U && true) = (true && g k U); rw [Bool.and_true, Bool.true_and]
  | cons j L ih =>
    intro U
    show (g j U && re_gl g (U ||| 2 ^ j) (L ++ [k])) = (g j U && re_gl g (U ||| 2 ^ j) L && g k (rf_ul (U ||| 2 ^ j) L))
    rw [ih, Bool.and_assoc]
theorem rf_ulm : ∀ (L : List Nat) U M, U < 32 → M < 32 → re_pm M L → ∀ j, j < 5 → (rf_ul U L).testBit j = (U.testBit j || M.testBit j) := by
  intro L
  induction L with
  | nil =>
    intro U M _ _ h j hj
    have h' : M = 0 := h
    subst h'
    rw [Nat.zero_testBit, Bool.or_false]; rfl
  | cons k L ih =>
    intro U M hU hM h j hj
    obtain ⟨hk, hb, h⟩ := h
    show (rf_ul (U ||| 2 ^ k) L).testBit j = _
    rw [ih _ _ (ra_or_lt U hU k hk) (ra_rm_lt M hM k hk) h j hj, ra_or_t, ra_rm_t M hM k hk j hj]
    by_cases e : k = j
    · subst e; rw [hb, decide_eq_true rfl, Bool.or_true]; rfl
    · rw [decide_eq_false e, Bool.or_false, Bool.not_false, Bool.and_true]
theorem rf_ullt : ∀ (L : List Nat) U M, U < 32 → M < 32 → re_pm M L → rf_ul U L < 32 := by
  intro L
  induction L with
  | nil => intro U M hU _ _; exact hU
  | cons k L ih => intro U M hU hM h; exact ih _ _ (ra_or_lt U hU k h.1) (ra_rm_lt M hM k h.1) h.2.2
theorem rf_ul0 {L : List Nat} {M : Nat} (hM : M < 32) (h : re_pm M L) : rf_ul 0 L = M :=
  ra_ext _ (rf_ullt L 0 M (by decide) hM h) _ hM (fun j hj => by rw [rf_ulm L 0 M (by decide) hM h j hj, Nat.zero_testBit, Bool.false_or])
theorem rf_snoc : ∀ (L : List Nat), L ≠ [] → ∃ (L' : List Nat) (k : Nat), L = L' ++ [k] := by
  intro L
  induction L with
  | nil => intro h; exact absurd rfl h
  | cons j L ih =>
    intro _
    by_cases e : L = []
    · subst e; exact ⟨[], j, rfl⟩
    · obtain ⟨L', k, q⟩ := ih e
      exact ⟨j :: L', k, by rw [q]; rfl⟩
theorem rf_pm5 {k : Nat} : ∀ (L : List Nat) M, re_pm M (L ++ [k]) → k < 5 := by
  intro L
  induction L with
  | nil => intro M h; exact h.1
  | cons j L ih => intro M h; exact ih _ h.2.2
theorem rf_and {S P : Nat} (hS : S < 32) (hP : P < 32) (hs : rb_s S P) : S &&& P = S :=
  ra_ext _ (ra_and_lt S hS P hP) _ hS (fun j hj => by
    rw [ra_and_t]
    cases h : S.testBit j
    · rfl
    · rw [hs j hj h]; rfl)
theorem rf_A {g : Nat → Nat → Bool} {P : Nat} {A : Nat → Nat} (hP : P < 32) (E : ∀ S, S < 32 → rd_ea g P A S) : ∀ n S, S < 32 → rb_s S P → ra_cn S = n → (0 < A S ↔ ∃ L, re_pm S L ∧ re_gl g 0 L = true) := by
  intro n
  induction n with
  | zero =>
    intro S hS hs hn
    have e := ra_cn_0 S hS hn
    have h := E S hS
    unfold rd_ea at h
    rw [if_pos e] at h
    exact ⟨fun _ => ⟨[], e, rfl⟩, fun _ => by omega⟩
  | succ n ih =>
    intro S hS hs hn
    have ne : S ≠ 0 := fun e => by
      have z0 : ra_cn 0 = 0 := by decide
      rw [e, z0] at hn; omega
    have h := E S hS
    unfold rd_ea at h
    rw [if_neg ne, Nat.zero_add] at h
    rw [h, re_S_pos]
    have sub : ∀ k, k < 5 → S.testBit k = true → (ra_rm S k < 32 ∧ rb_s (ra_rm S k) P ∧ ra_cn (ra_rm S k) = n ∧ ra_rm S k &&& P = ra_rm S k) := fun k hk hb => by
      have h1 := ra_rm_lt S hS k hk
      have h2 : rb_s (ra_rm S k) P := fun j hj z => hs j hj ((rf_rm_b hS hk hj).mp z).1
      have h3 := ra_cn_rm S hS k hk hb
      exact ⟨h1, h2, by omega, rf_and h1 hP h2⟩
    constructor
    · rintro ⟨k, hk, z⟩
      have hc : rd_ca g P S k = true := ra_nt (fun y => by rw [rd_fa0 y] at z; omega)
      rw [rd_fa1 hc] at z
      obtain ⟨c1, c2, c3⟩ := rd_cak hc
      obtain ⟨s1, s2, s3, s4⟩ := sub k hk c1
      obtain ⟨L, hL, hg⟩ := (ih _ s1 s2 s3).mp z
      refine ⟨L ++ [k], (rf_app hk L S hS).mpr ⟨c1, hL⟩, ?_⟩
      rw [rf_gl, hg, rf_ul0 s1 hL]
      rw [s4] at c3; rw [c3]; rfl
    · rintro ⟨L, hL, hg⟩
      have hne : L ≠ [] := fun e => by subst e; exact ne hL
      obtain ⟨L', k, rfl⟩ := rf_snoc L hne
      have hk := rf_pm5 L' S hL
      obtain ⟨hb, hL'⟩ := (rf_app hk L' S hS).mp hL
      obtain ⟨s1, s2, s3, s4⟩ := sub k hk hb
      rw [rf_gl, rf_ul0 s1 hL', Bool.and_eq_true] at hg
      refine ⟨k, hk, ?_⟩
      have hc : rd_ca g P S k = true := by
        unfold rd_ca
        rw [ra_and_t, hb, hs k hk hb, s4, hg.2]; rfl
      rw [rd_fa1 hc]
      exact (ih _ s1 s2 s3).mpr ⟨L', hL', hg.1⟩
theorem rf_code : ∀ (L : List Nat) n M, M < 32 → ra_cn M = n → re_pm M L → ∃ code, code < re_fa n ∧ re_spl n M code = L := by
  intro L
  induction L with
  | nil =>
    intro n M hM hn h
    have h' : M = 0 := h
    subst h'
    have z0 : ra_cn 0 = 0 := by decide
    rw [z0] at hn
    subst hn
    exact ⟨0, by decide, rfl⟩
  | cons k L ih =>
    intro n M hM hn h
    obtain ⟨hk, hb, hr⟩ := h
    have h1 := ra_cn_rm M hM k hk hb
    obtain ⟨n', rfl⟩ : ∃ n', n = n' + 1 := ⟨n - 1, by omega⟩
    obtain ⟨r, hr1, hr2⟩ := ih n' _ (ra_rm_lt M hM k hk) (by omega) hr
    obtain ⟨s, hs1, hs2⟩ := re_un_s hb 5 0 (by omega) (by omega)
    rw [re_ct_cn M hM] at hs1
    have hp := re_fa_p n'
    have e1 : (s * re_fa n' + r) / re_fa n' = s := by
      rw [Nat.mul_comm, Nat.mul_add_div hp, Nat.div_eq_of_lt hr1, Nat.add_zero]
    have e2 : (s * re_fa n' + r) % re_fa n' = r := by
      rw [Nat.mul_comm, Nat.mul_add_mod, Nat.mod_eq_of_lt hr1]
    refine ⟨s * re_fa n' + r, ?_, ?_⟩
    · have hle : (s + 1) * re_fa n' ≤ (n' + 1) * re_fa n' := Nat.mul_le_mul_right _ (by omega)
      rw [Nat.succ_mul] at hle
      show _ < (n' + 1) * re_fa n'
      omega
    · show re_un M 5 ((s * re_fa n' + r) / re_fa n') 0 :: re_spl n' (ra_rm M (re_un M 5 ((s * re_fa n' + r) / re_fa n') 0)) ((s * re_fa n' + r) % re_fa n') = k :: L
      rw [e1, e2, hs2, hr2]
def rf_or (t : Nat → Bool) (v : Nat → Nat) : Nat → Nat
  | 0 => 0
  | n + 1 => if t n = true then rf_or t v n ||| 2 ^ (v n) else rf_or t v n
theorem rf_or_t {t : Nat → Bool} {v : Nat → Nat} {j : Nat} : ∀ n, ((rf_or t v n).testBit j = true ↔ ∃ i, i < n ∧ t i = true ∧ v i = j) := by
  intro n
  induction n with
  | zero =>
    refine ⟨fun h => ?_, fun ⟨i, hi, _⟩ => by omega⟩
    have h' : Nat.testBit 0 j = true := h
    rw [Nat.zero_testBit] at h'; exact absurd h' (by decide)
  | succ n ih =>
    show (if t n = true then rf_or t v n ||| 2 ^ (v n) else rf_or t v n).testBit j = true ↔ _
    by_cases h : t n = true
    · rw [if_pos h, ra_or_t, Bool.or_eq_true, ih, decide_eq_true_eq]
      constructor
      · rintro (⟨i, hi, e⟩ | e)
        · exact ⟨i, by omega, e⟩
        · exact ⟨n, by omega, h, e⟩
      · rintro ⟨i, hi, e1, e2⟩
        by_cases z : i = n
        · subst z; exact Or.inr e2
        · exact Or.inl ⟨i, by omega, e1, e2⟩
    · rw [if_neg h, ih]
      constructor
      · rintro ⟨i, hi, e⟩; exact ⟨i, by omega, e⟩
      · rintro ⟨i, hi, e1, e2⟩
        by_cases z : i = n
        · subst z; exact absurd e1 h
        · exact ⟨i, by omega, e1, e2⟩
theorem rf_or_lt {t : Nat → Bool} {v : Nat → Nat} : ∀ n, (∀ i, i < n → v i < 5) → rf_or t v n < 32 := by
  intro n
  induction n with
  | zero => intro _; show 0 < 32; decide
  | succ n ih =>
    intro h
    show (if t n = true then rf_or t v n ||| 2 ^ (v n) else rf_or t v n) < 32
    by_cases z : t n = true
    · rw [if_pos z]; exact ra_or_lt _ (ih (fun i hi => h i (by omega))) _ (h n (by omega))
    · rw [if_neg z]; exact ih (fun i hi => h i (by omega))
def rf_t (g : Nat → Nat → Bool) (P code : Nat) : Bool := re_gl g 0 (re_spl (ra_cn P) P code)
def rf_v (P code : Nat) : Nat := (re_spl (ra_cn P) P code).getD (ra_cn P - 1) 0
theorem rf_v5 {P code : Nat} (hP : P < 32) (h0 : 0 < ra_cn P) (hc : code < re_fa (ra_cn P)) : rf_v P code < 5 := by
  have O := re_O _ P hP (re_spl_pm (ra_cn P) P code hP rfl hc)
  rw [re_spl_len] at O
  exact (O.1 (ra_cn P - 1) (by omega)).1
theorem rf_last {g : Nat → Nat → Bool} {P : Nat} {A : Nat → Nat} (hP : P < 32) (h0 : 0 < ra_cn P) (E : ∀ S, S < 32 → rd_ea g P A S) : rb_bs (rd_la g P A) 5 = rf_or (rf_t g P) (rf_v P) (re_fa (ra_cn P)) := by
  apply ra_ext _ (rb_bs_lt 5 (by omega)) _ (rf_or_lt _ (fun i hi => rf_v5 hP h0 hi))
  intro k hk
  apply ra_beq
  rw [rb_bs_t, rf_or_t]
  have hr := ra_rm_lt P hP k hk
  have hs : rb_s (ra_rm P k) P := fun j hj z => ((rf_rm_b hP hk hj).mp z).1
  have AA := rf_A hP E _ (ra_rm P k) hr hs rfl
  have lst : ∀ (L' : List Nat) (code : Nat), re_spl (ra_cn P) P code = L' ++ [k] → rf_v P code = k := fun L' code e => by
    have hl := re_spl_len (ra_cn P) P code
    unfold rf_v
    rw [e, List.length_append] at hl
    have hl2 : ra_cn P - 1 = L'.length := by
      have : [k].length = 1 := rfl
      omega
    rw [e, hl2]
    simp
  constructor
  · rintro ⟨_, h⟩
    unfold rd_la at h
    rw [Bool.and_eq_true, Bool.and_eq_true, decide_eq_true_eq] at h
    obtain ⟨h1, h2, h3⟩ := h
    obtain ⟨L', hL, hg⟩ := AA.mp h2
    obtain ⟨code, hc, e⟩ := rf_code (L' ++ [k]) _ P hP rfl ((rf_app hk L' P hP).mpr ⟨h1, hL⟩)
    refine ⟨code, hc, ?_, lst L' code e⟩
    unfold rf_t
    rw [e, rf_gl, hg, rf_ul0 hr hL, h3]; rfl
  · rintro ⟨code, hc, hg, hv⟩
    have hpm := re_spl_pm (ra_cn P) P code hP rfl hc
    have hl := re_spl_len (ra_cn P) P code
    have hne : re_spl (ra_cn P) P code ≠ [] := fun e => by
      rw [e] at hl
      have : ([] : List Nat).length = 0 := rfl
      omega
    obtain ⟨L', k2, e⟩ := rf_snoc _ hne
    have e3 : k2 = k := by
      rw [← hv]
      unfold rf_v
      rw [e, List.length_append] at hl
      have hl2 : ra_cn P - 1 = L'.length := by
        have : [k2].length = 1 := rfl
        omega
      rw [e, hl2]
      simp
    subst e3
    unfold rf_t at hg
    rw [e] at hpm hg
    obtain ⟨hb, hL'⟩ := (rf_app hk L' P hP).mp hpm
    rw [rf_gl, rf_ul0 hr hL', Bool.and_eq_true] at hg
    refine ⟨hk, ?_⟩
    unfold rd_la
    rw [hb, hg.2, decide_eq_true (AA.mpr ⟨L', hL', hg.1⟩)]; rfl
/-! the reference's walks: orders, unused, spell -/
section
variable {P m : Nat} {c d p o w : Nat → Nat} {fs : Int32} {th ac al ap ao ar lf gv : Nat → Int32}
theorem rf_ord4 {post : Int32 → Prop} (hm : m ≤ 5) (hp : post (nI (re_fa m))) :
    ∀ n j, 1 ≤ j → (j ≤ m ∨ j = 1) → m - j < n → wY_orders_4 post (nI m) th ac al ap ao ar lf gv n (nI (re_fa j)) (nI (j + 1)) := by
  intro n
  induction n with
  | zero => intro j _ _ h; omega
  | succ n ih =>
    intro j h1 h2 hn
    refine pk_lt m (j + 1) (fun h => ?_) (fun h => nm_r (e' := nI (re_fa (j + 1))) ?_ (nm_r (nI_1 (j + 1)) (ih (j + 1) (by omega) (by omega) (by omega)))) rfl rfl (by omega) (by omega)
    · by_cases e : j = m
      · rw [e]; exact hp
      · have e1 : j = 1 := by omega
        have e2 : m = 0 := by omega
        subst e1 e2; exact hp
    · rw [pk_mul, Nat.mul_comm]; rfl
theorem rf_ord {post : Int32 → Prop} (hm : m ≤ 5) (hp : post (nI (re_fa m))) : wpY_orders post (nI m, th, ac, al, ap, ao, ar, lf, gv) :=
  ⟨6, rf_ord4 hm hp 6 1 (by omega) (by omega) (by omega)⟩
theorem rf_un5 {post : Int32 → Prop} {U skip : Nat} (hP : P < 32) (hU : U < 32) (hs : skip < 200) :
    ∀ n k cnt s, k + n = 5 → skip = cnt + s → post (nI (re_un (ra_df P U) n s k)) → wY_unused_5 post (nI U) (nI skip) fs (ra_t P) ac al ap ao ar lf gv (n + 1) (nI cnt) (nI k) := by
  intro n
  induction n with
  | zero => intro k cnt s hk _ hp; exact pk_le 5 k (fun _ => hp) (fun h => absurd h (by omega)) rfl rfl (by omega) (by omega)
  | succ n ih =>
    intro k cnt s hk hc hp
    have hk5 : k < 5 := by omega
    have hdt := ra_df_t P hP U hU k hk5
    have hbit := ra_bit U hU k hk5
    refine pk_le 5 k (fun h => absurd h (by omega)) (fun _ => ⟨vp_in_nI hk5 (by omega), br_c (fun z => nm_r (nI_1 k) (ih (k + 1) cnt s (by omega) hc ?_)) (fun z => br_c (fun y => pk_eq cnt skip (fun e => ?_) (fun e => nm_r (nI_1 cnt) (nm_r (nI_1 k) (ih (k + 1) (cnt + 1) (s - 1) (by omega) (by omega) ?_))) rfl rfl (by omega) (by omega)) (fun y => nm_r (nI_1 k) (ih (k + 1) cnt s (by omega) hc ?_)))⟩) rfl rfl (by omega) (by omega)
    · rw [(ya_th hk5).mp z, Bool.false_and] at hdt
      rw [re_un_f (by rw [hdt]; decide)] at hp; exact hp
    · rw [ra_nt (fun q => z ((ya_th hk5).mpr q)), hbit.mp y] at hdt
      have e0 : s = 0 := by omega
      rw [e0, re_un_0 (by rw [hdt]; rfl)] at hp; exact hp
    · rw [ra_nt (fun q => z ((ya_th hk5).mpr q)), hbit.mp y] at hdt
      obtain ⟨s', rfl⟩ : ∃ s', s = s' + 1 := ⟨s - 1, by omega⟩
      rw [re_un_t (by rw [hdt]; rfl)] at hp; exact hp
    · have y2 : U.testBit k = true := ra_nt (fun q => y (hbit.mpr q))
      rw [y2, Bool.not_true, Bool.and_false] at hdt
      rw [re_un_f (by rw [hdt]; decide)] at hp; exact hp
theorem rf_sp70 {post : SY → Prop} {J : Int32 → Int32 → Int32 → Int32 → (Nat → Int32) → (Nat → Int32) → (Nat → Int32) → (Nat → Int32) → (Nat → Int32) → (Nat → Int32) → (Nat → Int32) → (Nat → Int32) → Prop} {x2 x6 z0 : Int32} {U i s r : Nat} (hx : x6 = nI s) (hz : z0 = nI r) (hP : P < 32) (hU : U < 32) (hi : i < 5) (hs : s < 200) (hk : re_un (ra_df P U) 5 s 0 < 5)
    (hJ : J x2 (nI r) (nI (U ||| 2 ^ (re_un (ra_df P U) 5 s 0))) (nI (i + 1)) (ra_t P) ac al ap ao (ra_f (ra_u w i (re_un (ra_df P U) 5 s 0))) lf gv) :
    wY_spell_70 post J x2 (nI U) (nI i) x6 z0 fs (ra_t P) ac al ap ao (ra_f w) lf gv := by
  subst hx hz
  refine ⟨6, rf_un5 hP hU hs 5 0 0 s (by omega) (by omega) ⟨vp_in_nI hi (by omega), nm_r (ra_fuk w (by omega) _) ⟨vp_in_nI hi (by omega), nm_r ?_ (nm_r (nI_1 i) hJ)⟩⟩⟩
  rw [ra_fk (by omega), ra_us]
  exact ra_orI U hU _ hk
theorem rf_sp44 {post : SY → Prop} {J : Int32 → Int32 → Int32 → Int32 → (Nat → Int32) → (Nat → Int32) → (Nat → Int32) → (Nat → Int32) → (Nat → Int32) → (Nat → Int32) → (Nat → Int32) → (Nat → Int32) → Prop} {z0 : Int32} {U i n code : Nat} (hz : z0 = nI (n + 1)) (hn : n < 5) (hc : code < re_fa (n + 1)) (hP : P < 32) (hU : U < 32) (hi : i < 5) (hk : re_un (ra_df P U) 5 (code / re_fa n) 0 < 5)
    (hJ : J (nI (re_fa n)) (nI (code % re_fa n)) (nI (U ||| 2 ^ (re_un (ra_df P U) 5 (code / re_fa n) 0))) (nI (i + 1)) (ra_t P) ac al ap ao (ra_f (ra_u w i (re_un (ra_df P U) 5 (code / re_fa n) 0))) lf gv) :
    wY_spell_44 post J (nI code) (nI U) (nI i) z0 (nI (re_fa (n + 1))) fs (ra_t P) ac al ap ao (ra_f w) lf gv := by
  subst hz
  have b1 := re_fa_b n (by omega)
  have b2 := re_fa_b (n + 1) (by omega)
  have hq := re_q hc
  have ed : re_fa (n + 1) / (n + 1) = re_fa n := Nat.mul_div_cancel_left _ (by omega)
  refine ⟨nI_ne0 (by omega) (by omega), nm_r (e' := nI (re_fa n)) ?_ (pk_le (re_fa n) 0 (fun h => absurd h (by omega)) (fun _ => ⟨nI_ne0 b1.1 (by omega), pk_le (re_fa n) 0 (fun h => absurd h (by omega)) (fun _ => ⟨nI_ne0 b1.1 (by omega), rf_sp70 (pk_div (by omega) b1.1 (by omega)) (pk_rem (by omega) b1.1 (by omega)) hP hU hi (by omega) hk hJ⟩) rfl rfl (by omega) (by omega)⟩) rfl rfl (by omega) (by omega))⟩
  rw [pk_div (by omega) (by omega) (by omega), ed]
theorem rf_sp13 {post : SY → Prop} (hP : P < 32) (hm : m ≤ 5) :
    ∀ n i U code (w : Nat → Nat), i + n = m → U < 32 → ra_cn (ra_df P U) = n → code < re_fa n → post (nI m, ra_t P, ac, al, ap, ao, ra_f (rd_wl (re_spl n (ra_df P U) code) i w), lf, gv) →
      wY_spell_13 post (nI m) (n + 1) (nI (re_fa n)) (nI code) (nI U) (nI i) (ra_t P) ac al ap ao (ra_f w) lf gv := by
  intro n
  induction n with
  | zero => intro i U code w hi _ _ _ hp; exact pk_le m i (fun _ => hp) (fun h => absurd h (by omega)) rfl rfl (by omega) (by omega)
  | succ n ih =>
    intro i U code w hi hU hn hc hp
    have hd := ra_df_lt P hP U hU
    have hk := re_k hd hn hc
    have e : nI m - nI i = nI (n + 1) := by
      rw [pk_sub (by omega), show m - i = n + 1 from by omega]
    have h1 := ra_cn_rm _ hd _ hk.1 hk.2
    refine pk_le m i (fun h => absurd h (by omega)) (fun _ => pk_le (n + 1) 0 (fun h => absurd h (by omega)) (fun _ => rf_sp44 e (by omega) hc hP hU (by omega) hk.1 (ih (i + 1) _ _ _ (by omega) (ra_or_lt U hU _ hk.1) ?_ (Nat.mod_lt _ (re_fa_p n)) ?_)) e rfl (by omega) (by omega)) rfl rfl (by omega) (by omega)
    · rw [re_df_or hP hU hk.1]; omega
    · rw [re_df_or hP hU hk.1]; exact hp
theorem rf_spell {post : SY → Prop} {code : Nat} (hP : P < 32) (hc : code < re_fa (ra_cn P))
    (hp : ∀ w : Nat → Nat, (∀ i, i < ra_cn P → w i = (re_spl (ra_cn P) P code).getD i 0) → post (nI (ra_cn P), ra_t P, ac, al, ap, ao, ra_f w, lf, gv)) :
    wpY_spell post (nI (ra_cn P), ra_t P, ac, al, ap, ao, ar, lf, gv) (nI code) := by
  have hm := ra_cn_le P hP
  obtain ⟨w, rfl⟩ := ra_any ar
  have e := re_df_0 P hP
  refine rf_ord hm ⟨ra_cn P + 1, rf_sp13 hP hm (ra_cn P) 0 0 code w (by omega) (by decide) (by rw [e]) hc (hp _ (fun i hi => ?_))⟩
  have h2 := (re_wl (o := w) (re_spl (ra_cn P) (ra_df P 0) code) 0 w).2 i (by rw [re_spl_len]; exact hi)
  rw [Nat.zero_add] at h2
  rw [h2, e]
theorem rf_spO {code : Nat} (hP : P < 32) (hc : code < re_fa (ra_cn P)) (hw : ∀ i, i < ra_cn P → w i = (re_spl (ra_cn P) P code).getD i 0) : rb_O P (ra_cn P) w := by
  have O := re_O _ P hP (re_spl_pm (ra_cn P) P code hP rfl hc)
  rw [re_spl_len] at O
  exact rb_Oc O hw
theorem rf_spg {g : Nat → Nat → Bool} {code : Nat} (hP : P < 32) (hc : code < re_fa (ra_cn P)) (hw : ∀ i, i < ra_cn P → w i = (re_spl (ra_cn P) P code).getD i 0) : rb_ag P (rb_tk g w (ra_cn P)) = rf_t g P code := by
  have h := re_ag (g := g) (w := w) hP (re_spl_pm (ra_cn P) P code hP rfl hc) (by rw [re_spl_len]; exact hw)
  rw [re_spl_len] at h; exact h
/-! goodOrders, arrange, canBeLast of the reference -/
theorem rf_go9 {post : Int32 → SY → Prop} (hP : P < 32) (T : rb_T P c d p)
    (hp : ∀ ar lf gv : Nat → Int32, post (nI (re_N (rb_in c d p) (ra_cn P) 0 P)) (nI (ra_cn P), ra_t P, ra_f c, ra_f d, ra_f p, ao, ar, lf, gv)) :
    ∀ n code (ar lf gv : Nat → Int32), code ≤ re_fa (ra_cn P) → re_fa (ra_cn P) - code < n → wY_goodOrders_9 post (nI (re_fa (ra_cn P))) n (nI (rd_S (fun code => re_one (rf_t (rb_in c d p) P code)) code)) (nI code) (nI (ra_cn P)) (ra_t P) (ra_f c) (ra_f d) (ra_f p) ao ar lf gv := by
  have hm := ra_cn_le P hP
  have hb := re_fa_b (ra_cn P) (by omega)
  intro n
  induction n with
  | zero => intro code _ _ _ _ h; omega
  | succ n ih =>
    intro code ar lf gv hc hn
    refine pk_le (re_fa (ra_cn P)) code (fun h => ?_) (fun h => rf_spell hP h (fun w hw => ya_ap hP hm T (rf_spO hP h hw) (fun lf gv => ?_))) rfl rfl (by omega) (by omega)
    · have e : code = re_fa (ra_cn P) := by omega
      rw [e]; exact hp ar lf gv
    · rw [rf_spg hP h hw]
      have J := ih (code + 1) (ra_f w) lf gv (by omega) (by omega)
      have es : rd_S (fun code => re_one (rf_t (rb_in c d p) P code)) (code + 1) = rd_S (fun code => re_one (rf_t (rb_in c d p) P code)) code + re_one (rf_t (rb_in c d p) P code) := rfl
      refine br_c (fun z => nm_r (nI_1 code) ?_) (fun z => nm_r (nI_1 _) (nm_r (nI_1 code) ?_))
      · rw [es, ra_bz.mp z] at J; exact J
      · rw [es, ra_nt (fun q => z (ra_bz.mpr q))] at J; exact J
theorem rf_go {post : Int32 → SY → Prop} (hP : P < 32) (T : rb_T P c d p)
    (hp : ∀ ar lf gv : Nat → Int32, post (nI (re_N (rb_in c d p) (ra_cn P) 0 P)) (nI (ra_cn P), ra_t P, ra_f c, ra_f d, ra_f p, ao, ar, lf, gv)) :
    wpY_goodOrders post (nI (ra_cn P), ra_t P, ra_f c, ra_f d, ra_f p, ao, ar, lf, gv) :=
  rf_ord (ra_cn_le P hP) ⟨re_fa (ra_cn P) + 1, rf_go9 hP T hp _ 0 ar lf gv (by omega) (by omega)⟩
theorem rf_a26 {post : Int32 → SY → Prop} (hm : m ≤ 5) :
    ∀ (L : List Nat) i (o : Nat → Nat), i + L.length = m → (∀ j, j < L.length → w (i + j) = L.getD j 0) → post 1 (nI m, th, ac, al, ap, ra_f (rd_wl L i o), ra_f w, lf, gv) →
      wY_arrange_26 post (nI m) (L.length + 1) (nI i) th ac al ap (ra_f o) (ra_f w) lf gv := by
  intro L
  induction L with
  | nil =>
    intro i o hi _ hp
    have hi' : i = m := by rw [← hi]; rfl
    exact pk_le m i (fun _ => hp) (fun h => absurd h (by omega)) rfl rfl (by omega) (by omega)
  | cons k L ih =>
    intro i o hi hw hp
    have hi' : i + (L.length + 1) = m := hi
    have hw0 : w i = k := hw 0 (Nat.succ_pos _)
    refine pk_le m i (fun h => absurd h (by omega)) (fun h => ⟨vp_in_nI (by omega) (by omega), vp_in_nI (by omega) (by omega), nm_r (e' := ra_f (ra_u o i k)) ?_ (nm_r (nI_1 i) (ih (i + 1) _ (by omega) (fun j hj => ?_) hp))⟩) rfl rfl (by omega) (by omega)
    · rw [ra_fk (by omega), hw0]; exact ra_fuk o (by omega) k
    · rw [show i + 1 + j = i + (j + 1) from by omega, hw (j + 1) (Nat.succ_lt_succ hj)]; rfl
theorem rf_a7 {post : Int32 → SY → Prop} {code0 : Nat} (hP : P < 32) (T : rb_T P c d p) (h0 : code0 < re_fa (ra_cn P)) (h1 : rf_t (rb_in c d p) P code0 = true) (h2 : ∀ code, code < code0 → rf_t (rb_in c d p) P code = false)
    (hp : ∀ ar lf gv : Nat → Int32, post 1 (nI (ra_cn P), ra_t P, ra_f c, ra_f d, ra_f p, ra_f (rd_wl (re_spl (ra_cn P) P code0) 0 o), ar, lf, gv)) :
    ∀ n code (ar lf gv : Nat → Int32), code ≤ code0 → code0 - code < n → wY_arrange_7 post (nI (re_fa (ra_cn P))) n (nI code) (nI (ra_cn P)) (ra_t P) (ra_f c) (ra_f d) (ra_f p) (ra_f o) ar lf gv := by
  have hm := ra_cn_le P hP
  have hb := re_fa_b (ra_cn P) (by omega)
  intro n
  induction n with
  | zero => intro code _ _ _ _ h; omega
  | succ n ih =>
    intro code ar lf gv hc hn
    refine pk_le (re_fa (ra_cn P)) code (fun h => absurd h (by omega)) (fun h => rf_spell hP h (fun w hw => ya_ap hP hm T (rf_spO hP h hw) (fun lf gv => ?_))) rfl rfl (by omega) (by omega)
    rw [rf_spg hP h hw]
    refine br_c (fun z => nm_r (nI_1 code) (ih (code + 1) _ lf gv ?_ ?_)) (fun z => ?_)
    · have : code ≠ code0 := fun e => by rw [e, h1] at z; exact absurd (ra_bz.mp z) (by decide)
      omega
    · have : code ≠ code0 := fun e => by rw [e, h1] at z; exact absurd (ra_bz.mp z) (by decide)
      omega
    · have e : code = code0 := by
        by_cases y : code < code0
        · rw [h2 code y] at z; exact absurd ra_b0 z
        · omega
      subst e
      have hl := re_spl_len (ra_cn P) P code
      exact ⟨_, rf_a26 hm (re_spl (ra_cn P) P code) 0 o (by omega) (fun j hj => by rw [Nat.zero_add]; exact hw j (by omega)) (hp _ _ _)⟩
theorem rf_a7n {post : Int32 → SY → Prop} (hP : P < 32) (T : rb_T P c d p) (h2 : ∀ code, code < re_fa (ra_cn P) → rf_t (rb_in c d p) P code = false)
    (hp : ∀ ar lf gv : Nat → Int32, post 0 (nI (ra_cn P), ra_t P, ra_f c, ra_f d, ra_f p, ao, ar, lf, gv)) :
    ∀ n code (ar lf gv : Nat → Int32), code ≤ re_fa (ra_cn P) → re_fa (ra_cn P) - code < n → wY_arrange_7 post (nI (re_fa (ra_cn P))) n (nI code) (nI (ra_cn P)) (ra_t P) (ra_f c) (ra_f d) (ra_f p) ao ar lf gv := by
  have hm := ra_cn_le P hP
  have hb := re_fa_b (ra_cn P) (by omega)
  intro n
  induction n with
  | zero => intro code _ _ _ _ h; omega
  | succ n ih =>
    intro code ar lf gv hc hn
    refine pk_le (re_fa (ra_cn P)) code (fun h => hp ar lf gv) (fun h => rf_spell hP h (fun w hw => ya_ap hP hm T (rf_spO hP h hw) (fun lf gv => ?_))) rfl rfl (by omega) (by omega)
    rw [rf_spg hP h hw, h2 code h, ra_b0]
    exact br_t rfl (nm_r (nI_1 code) (ih (code + 1) _ lf gv (by omega) (by omega)))
theorem rf_l9 {post : Int32 → SY → Prop} (hP : P < 32) (h0 : 0 < ra_cn P) (T : rb_T P c d p)
    (hp : ∀ ar lf gv : Nat → Int32, post (nI (rf_or (rf_t (rb_in c d p) P) (rf_v P) (re_fa (ra_cn P)))) (nI (ra_cn P), ra_t P, ra_f c, ra_f d, ra_f p, ao, ar, lf, gv)) :
    ∀ n code (ar lf gv : Nat → Int32), code ≤ re_fa (ra_cn P) → re_fa (ra_cn P) - code < n → wY_canBeLast_9 post (nI (re_fa (ra_cn P))) n (nI (rf_or (rf_t (rb_in c d p) P) (rf_v P) code)) (nI code) (nI (ra_cn P)) (ra_t P) (ra_f c) (ra_f d) (ra_f p) ao ar lf gv := by
  have hm := ra_cn_le P hP
  have hb := re_fa_b (ra_cn P) (by omega)
  intro n
  induction n with
  | zero => intro code _ _ _ _ h; omega
  | succ n ih =>
    intro code ar lf gv hc hn
    refine pk_le (re_fa (ra_cn P)) code (fun h => ?_) (fun h => pk_le (ra_cn P) 0 (fun h => absurd h (by omega)) (fun _ => rf_spell hP h (fun w hw => ya_ap hP hm T (rf_spO hP h hw) (fun lf gv => ?_))) rfl rfl (by omega) (by omega)) rfl rfl (by omega) (by omega)
    · have e : code = re_fa (ra_cn P) := by omega
      rw [e]; exact hp ar lf gv
    · rw [rf_spg hP h hw]
      have J := ih (code + 1) (ra_f w) lf gv (by omega) (by omega)
      have e1 : nI (ra_cn P) - 1 = nI (ra_cn P - 1) := pk_sub (b := 1) (by omega)
      have hv : w (ra_cn P - 1) = rf_v P code := hw _ (by omega)
      have hv5 := rf_v5 hP h0 h
      have hol := rf_or_lt (t := rf_t (rb_in c d p) P) (v := rf_v P) code (fun i hi => rf_v5 hP h0 (by omega))
      refine br_c (fun z => nm_r (nI_1 code) ?_) (fun z => ⟨?_, nm_r (e' := nI (rf_or (rf_t (rb_in c d p) P) (rf_v P) (code + 1))) ?_ (nm_r (nI_1 code) J)⟩)
      · have es : rf_or (rf_t (rb_in c d p) P) (rf_v P) (code + 1) = rf_or (rf_t (rb_in c d p) P) (rf_v P) code := if_neg (by rw [ra_bz.mp z]; decide)
        rw [es] at J; exact J
      · rw [e1]; exact vp_in_nI (by omega) (by omega)
      · have es : rf_or (rf_t (rb_in c d p) P) (rf_v P) (code + 1) = rf_or (rf_t (rb_in c d p) P) (rf_v P) code ||| 2 ^ (rf_v P code) := if_pos (ra_nt (fun q => z (ra_bz.mpr q)))
        rw [es, e1, ra_fk (by omega), hv]
        exact ra_orI _ hol _ hv5
end
end
section
/-! outcomes: one answer and one abstract state for both sides -/
def rg_R (P : Nat) (c d p o : Nat → Nat) : Prop := P < 32 ∧ rb_T P c d p ∧ rb_O P (ra_cn P) o
def rg_X (P : Nat) (c d p o : Nat → Nat) (u : SX) : Prop := ∃ bl am : Nat → Int32, u = (nI P, nI (ra_cn P), ra_f c, ra_f d, ra_f p, ra_f o, bl, am)
def rg_Y (P : Nat) (c d p o : Nat → Nat) (v : SY) : Prop := ∃ ar lf gv : Nat → Int32, v = (nI (ra_cn P), ra_t P, ra_f c, ra_f d, ra_f p, ra_f o, ar, lf, gv)
theorem rg_first : ∀ P, P < 32 → (∃ k, k < 5 ∧ P.testBit k = false ∧ ∀ j, j < k → P.testBit j = true) ∨ (∀ j, j < 5 → P.testBit j = true) := by
  intro P hP
  by_cases h : ∃ k, k < 5 ∧ P.testBit k = false
  · obtain ⟨k, hk, hmin⟩ := pk_least (fun k => k < 5 ∧ P.testBit k = false) h
    exact Or.inl ⟨k, hk.1, hk.2, fun j hj => ra_nt (fun z => hmin j hj ⟨by omega, z⟩)⟩
  · exact Or.inr (fun j hj => ra_nt (fun z => h ⟨j, hj, z⟩))
section
variable {P : Nat} {c d p o : Nat → Nat} {u : SX} {v : SY}
theorem rg_add (R : rg_R P c d p o) (X : rg_X P c d p o u) (Y : rg_Y P c d p o v) (v1 v2 v3 : Int32) :
    ∃ (r : Int32) (P' : Nat) (c' d' p' o' : Nat → Nat), rg_R P' c' d' p' o' ∧ (∀ post : Int32 → SX → Prop, (∀ u', rg_X P' c' d' p' o' u' → post r u') → wpX_add post u v1 v2 v3) ∧ (∀ post : Int32 → SY → Prop, (∀ v', rg_Y P' c' d' p' o' v' → post r v') → wpY_add post v v1 v2 v3) := by
  obtain ⟨hP, T, O⟩ := R
  obtain ⟨bl, am, rfl⟩ := X
  obtain ⟨ar, lf, gv, rfl⟩ := Y
  rcases rc_num v1 v2 v3 with ⟨nx, ny⟩ | ⟨a, b, q, h1, h2, h3, h4, rfl, rfl, rfl, nx, ny⟩
  · refine ⟨-1, P, c, d, p, o, ⟨hP, T, O⟩, fun post h => ?_, fun post h => ?_⟩
    · unfold wpX_add
      exact nx _ (br_t rfl (h _ ⟨bl, am, rfl⟩))
    · unfold wpY_add
      exact ny _ _ _ _ _ _ _ _ _ _ (br_t rfl (h _ ⟨ar, lf, gv, rfl⟩))
  · rcases rg_first P hP with ⟨k, hk, hb, hbs⟩ | hall
    · have hm := ra_cn_lt P hP k hk hb
      have ec := ra_cn_or P hP k hk hb
      refine ⟨nI k, P ||| 2 ^ k, ra_u c k a, ra_u d k b, ra_u p k q, ra_u o (ra_cn P) k, ⟨ra_or_lt P hP k hk, rc_Tadd T h1 h2 h3 h4, ?_⟩, fun post h => ?_, fun post h => ?_⟩
      · rw [ec]; exact rc_Oadd O hk hb
      · unfold wpX_add
        refine nx _ (br_f ra_10 ⟨k + 1, rc_addX hP hm (by omega) (by omega) (by omega) hk hb hbs (h _ ⟨bl, am, ?_⟩) (k + 1) 0 (by omega) (by omega)⟩)
        rw [ec]
      · unfold wpY_add
        refine ny _ _ _ _ _ _ _ _ _ _ (br_f ra_10 ⟨k + 1, rc_addY hm hk hb hbs (h _ ⟨ar, lf, gv, ?_⟩) (k + 1) 0 (by omega) (by omega)⟩)
        rw [ec]
    · refine ⟨-2, P, c, d, p, o, ⟨hP, T, O⟩, fun post h => ?_, fun post h => ?_⟩
      · unfold wpX_add
        exact nx _ (br_f ra_10 ⟨6, rc_addXF hP hall (h _ ⟨bl, am, rfl⟩) 6 0 (by omega) (by omega)⟩)
      · unfold wpY_add
        exact ny _ _ _ _ _ _ _ _ _ _ (br_f ra_10 ⟨6, rc_addYF hall (h _ ⟨ar, lf, gv, rfl⟩) 6 0 (by omega) (by omega)⟩)
/-- out of range, not there, or there at some place -/
theorem rg_key (hP : P < 32) (O : rb_O P (ra_cn P) o) (x : Int32) : (x < 0 ∨ nI 5 ≤ x) ∨ (∃ k, k < 5 ∧ x = nI k ∧ P.testBit k = false) ∨ (∃ k a, k < 5 ∧ x = nI k ∧ P.testBit k = true ∧ a < ra_cn P ∧ o a = k ∧ (∀ i, i < a → o i ≠ k)) := by
  rcases pk_ix x (n := 5) (by omega) with h | h | ⟨k, hk, e⟩
  · exact Or.inl (Or.inl h)
  · exact Or.inl (Or.inr h)
  · cases hb : P.testBit k
    · exact Or.inr (Or.inl ⟨k, hk, e, hb⟩)
    · obtain ⟨a, h1, h2, h3⟩ := xa_pos O hk hb
      exact Or.inr (Or.inr ⟨k, a, hk, e, hb, h1, h2, h3⟩)
theorem rg_remove (R : rg_R P c d p o) (v1 : Int32) :
    ∃ (r : Int32) (P' : Nat) (c' d' p' o' : Nat → Nat), rg_R P' c' d' p' o' ∧ (∀ u : SX, rg_X P c d p o u → ∀ post : Int32 → SX → Prop, (∀ u', rg_X P' c' d' p' o' u' → post r u') → wpX_remove post u v1) ∧ (∀ v : SY, rg_Y P c d p o v → ∀ post : Int32 → SY → Prop, (∀ v', rg_Y P' c' d' p' o' v' → post r v') → wpY_remove post v v1) := by
  obtain ⟨hP, T, O⟩ := R
  have hm := ra_cn_le P hP
  rcases rg_key hP O v1 with hx | ⟨k, hk, rfl, hb⟩ | ⟨k, a, hk, rfl, hb, ha, he, hf⟩
  · refine ⟨0, P, c, d, p, o, ⟨hP, T, O⟩, fun u X post h => ?_, fun v Y post h => ?_⟩
    · obtain ⟨bl, am, rfl⟩ := X
      unfold wpX_remove
      exact xa_hasN hx (br_t rfl (h _ ⟨bl, am, rfl⟩))
    · obtain ⟨ar, lf, gv, rfl⟩ := Y
      unfold wpY_remove
      exact ya_isN hx (br_t rfl (h _ ⟨ar, lf, gv, rfl⟩))
  · refine ⟨0, P, c, d, p, o, ⟨hP, T, O⟩, fun u X post h => ?_, fun v Y post h => ?_⟩
    · obtain ⟨bl, am, rfl⟩ := X
      unfold wpX_remove
      exact xa_has hP hk (fun z => absurd (hb.symm.trans z) (by decide)) (fun _ => br_t rfl (h _ ⟨bl, am, rfl⟩))
    · obtain ⟨ar, lf, gv, rfl⟩ := Y
      unfold wpY_remove
      exact ya_is hk (fun z => absurd (hb.symm.trans z) (by decide)) (fun _ => br_t rfl (h _ ⟨ar, lf, gv, rfl⟩))
  · have ec := ra_cn_rm P hP k hk hb
    have ho : ∀ i, i < ra_cn P → o i < 5 := fun i hi => (O.1 i hi).1
    have O2 := O
    rw [← ec] at O2 ha
    refine ⟨1, ra_rm P k, c, d, p, rc_sh (ra_cn (ra_rm P k) - a) a o, ⟨ra_rm_lt P hP k hk, rc_Trm hP hk T, rc_Orm hP hk O2 ha he⟩, fun u X post h => ?_, fun v Y post h => ?_⟩
    · obtain ⟨bl, am, rfl⟩ := X
      unfold wpX_remove
      refine xa_has hP hk (fun _ => br_f ra_10 (xa_pl hm ho hk (by omega) he hf (nm_r (e' := nI (ra_cn (ra_rm P k))) ?_ ⟨ra_cn (ra_rm P k) - a + 1, rc_rm28 hP hk (by omega) (ra_cn (ra_rm P k) - a) a o (by omega) (fun j hj => ho j (by omega)) (h _ ⟨bl, am, rfl⟩)⟩))) (fun z => absurd (hb.symm.trans z) (by decide))
      rw [← ec]; exact nI_pred _
    · obtain ⟨ar, lf, gv, rfl⟩ := Y
      unfold wpY_remove
      refine ya_is hk (fun _ => br_f ra_10 (rc_find hm ho hk (by omega) he hf ?_)) (fun z => absurd (hb.symm.trans z) (by decide))
      rw [← ec]
      exact rc_to (by omega) (by omega) ⟨vp_in_nI hk (by omega), nm_r (ra_t2 hP hk) (h _ ⟨ar, lf, gv, rfl⟩)⟩
theorem rg_place (R : rg_R P c d p o) (X : rg_X P c d p o u) (Y : rg_Y P c d p o v) (v1 v2 : Int32) :
    ∃ (r : Int32) (P' : Nat) (c' d' p' o' : Nat → Nat), rg_R P' c' d' p' o' ∧ (∀ post : Int32 → SX → Prop, (∀ u', rg_X P' c' d' p' o' u' → post r u') → wpX_place post u v1 v2) ∧ (∀ post : Int32 → SY → Prop, (∀ v', rg_Y P' c' d' p' o' v' → post r v') → wpY_place post v v1 v2) := by
  obtain ⟨hP, T, O⟩ := R
  obtain ⟨bl, am, rfl⟩ := X
  obtain ⟨ar, lf, gv, rfl⟩ := Y
  have hm := ra_cn_le P hP
  rcases rg_key hP O v1 with hx | ⟨k, hk, rfl, hb⟩ | ⟨k, a, hk, rfl, hb, ha, he, hf⟩
  · refine ⟨0, P, c, d, p, o, ⟨hP, T, O⟩, fun post h => ?_, fun post h => ?_⟩
    · unfold wpX_place
      exact xa_hasN hx (br_t rfl (h _ ⟨bl, am, rfl⟩))
    · unfold wpY_place
      exact ya_isN hx (br_t rfl (h _ ⟨ar, lf, gv, rfl⟩))
  · refine ⟨0, P, c, d, p, o, ⟨hP, T, O⟩, fun post h => ?_, fun post h => ?_⟩
    · unfold wpX_place
      exact xa_has hP hk (fun z => absurd (hb.symm.trans z) (by decide)) (fun _ => br_t rfl (h _ ⟨bl, am, rfl⟩))
    · unfold wpY_place
      exact ya_is hk (fun z => absurd (hb.symm.trans z) (by decide)) (fun _ => br_t rfl (h _ ⟨ar, lf, gv, rfl⟩))
  · have ho : ∀ i, i < ra_cn P → o i < 5 := fun i hi => (O.1 i hi).1
    by_cases n0 : v2 < 0
    · refine ⟨0, P, c, d, p, o, ⟨hP, T, O⟩, fun post h => ?_, fun post h => ?_⟩
      · unfold wpX_place
        exact xa_has hP hk (fun _ => br_f ra_10 (br_t n0 (h _ ⟨bl, am, rfl⟩))) (fun z => absurd (hb.symm.trans z) (by decide))
      · unfold wpY_place
        exact ya_is hk (fun _ => br_f ra_10 (br_t n0 (h _ ⟨ar, lf, gv, rfl⟩))) (fun z => absurd (hb.symm.trans z) (by decide))
    · by_cases n1 : v2 < nI (ra_cn P)
      · obtain ⟨i, hi31, rfl⟩ := nI_of n0
        have hi : i < ra_cn P := (nI_ltI hi31 (by omega)).mp n1
        obtain ⟨e, hcn⟩ : ∃ e, ra_cn P = e + 1 := ⟨ra_cn P - 1, by omega⟩
        have O2 := O
        rw [hcn] at O2
        refine ⟨1, P, c, d, p, rc_pl e a i k o, ⟨hP, T, by rw [hcn]; exact rc_Opl O2 (by omega) (by omega) he⟩, fun post h => ?_, fun post h => ?_⟩
        · unfold wpX_place
          refine xa_has hP hk (fun _ => br_f ra_10 (br_f n0 (br_t n1 (xa_pl hm ho hk ha he hf ?_)))) (fun z => absurd (hb.symm.trans z) (by decide))
          by_cases hai : a ≤ i
          · refine ⟨i - a + 1, rc_p28 hk (by omega) (i - a) a o (by omega) (fun j hj => ho j (by omega)) (h _ ⟨bl, am, ?_⟩)⟩
            rw [rc_x1 (e := e) hai (by omega)]
          · refine ⟨1, rc_p28d hk (by omega) (by omega) (fun j hj => ho j (by omega)) (h _ ⟨bl, am, ?_⟩)⟩
            rw [rc_x2 (e := e) (by omega) (by omega)]
        · unfold wpY_place
          refine ya_is hk (fun _ => br_f ra_10 (br_f n0 (br_t n1 (rc_find hm ho hk ha he hf ?_)))) (fun z => absurd (hb.symm.trans z) (by decide))
          rw [hcn]
          refine rc_to (by omega) (by omega) ⟨e - i + 1, ?_⟩
          have q := rc_p39 (post := post) (k := k) (i := i) (e := e) (th := ra_t P) (ac := ra_f c) (al := ra_f d) (ap := ra_f p) (ar := ar) (lf := lf) (gv := gv) (by omega) (by omega) (e - i) (rc_sh (e - a) a o) (by omega)
          rw [show i + (e - i) = e from by omega] at q
          refine q (h _ ⟨ar, lf, gv, ?_⟩)
          rw [hcn]; rfl
      · refine ⟨0, P, c, d, p, o, ⟨hP, T, O⟩, fun post h => ?_, fun post h => ?_⟩
        · unfold wpX_place
          exact xa_has hP hk (fun _ => br_f ra_10 (br_f n0 (br_f n1 (h _ ⟨bl, am, rfl⟩)))) (fun z => absurd (hb.symm.trans z) (by decide))
        · unfold wpY_place
          exact ya_is hk (fun _ => br_f ra_10 (br_f n0 (br_f n1 (h _ ⟨ar, lf, gv, rfl⟩)))) (fun z => absurd (hb.symm.trans z) (by decide))
theorem rg_goodOrders (R : rg_R P c d p o) (X : rg_X P c d p o u) (Y : rg_Y P c d p o v) :
    (∀ post : Int32 → SX → Prop, (∀ u', rg_X P c d p o u' → post (nI (re_N (rb_in c d p) (ra_cn P) 0 P)) u') → wpX_goodOrders post u) ∧ (∀ post : Int32 → SY → Prop, (∀ v', rg_Y P c d p o v' → post (nI (re_N (rb_in c d p) (ra_cn P) 0 P)) v') → wpY_goodOrders post v) := by
  obtain ⟨hP, T, O⟩ := R
  obtain ⟨bl, am, rfl⟩ := X
  obtain ⟨ar, lf, gv, rfl⟩ := Y
  refine ⟨fun post h => ?_, fun post h => rf_go hP T (fun ar lf gv => h _ ⟨ar, lf, gv, rfl⟩)⟩
  unfold wpX_goodOrders
  refine rd_fill hP T (fun B A EB EA => ?_)
  have q := h _ ⟨ra_f B, ra_f A, rfl⟩
  rw [← re_B0 hP EB] at q
  exact q
theorem rg_arrange (R : rg_R P c d p o) (X : rg_X P c d p o u) (Y : rg_Y P c d p o v) :
    ∃ (r : Int32) (P' : Nat) (c' d' p' o' : Nat → Nat), rg_R P' c' d' p' o' ∧ (∀ post : Int32 → SX → Prop, (∀ u', rg_X P' c' d' p' o' u' → post r u') → wpX_arrange post u) ∧ (∀ post : Int32 → SY → Prop, (∀ v', rg_Y P' c' d' p' o' v' → post r v') → wpY_arrange post v) := by
  obtain ⟨hP, T, O⟩ := R
  obtain ⟨bl, am, rfl⟩ := X
  obtain ⟨ar, lf, gv, rfl⟩ := Y
  have hm := ra_cn_le P hP
  by_cases hN : 0 < re_N (rb_in c d p) (ra_cn P) 0 P
  · obtain ⟨code, ⟨hc, hg⟩, hmin⟩ := pk_least _ (re_N_pos.mp hN)
    have hbad : ∀ code', code' < code → rf_t (rb_in c d p) P code' = false := fun code' h => ra_nf (fun z => hmin code' h ⟨by omega, z⟩)
    have hl := re_spl_len (ra_cn P) P code
    refine ⟨1, P, c, d, p, rd_wl (re_spl (ra_cn P) P code) 0 o, ⟨hP, T, ?_⟩, fun post h => ?_, fun post h => ?_⟩
    · refine rf_spO hP hc (fun i hi => ?_)
      have h2 := (re_wl (o := o) (re_spl (ra_cn P) P code) 0 o).2 i (by omega)
      rw [Nat.zero_add] at h2; exact h2
    · unfold wpX_arrange
      refine rd_fill hP T (fun B A EB EA => ?_)
      have hB0 := re_B0 hP EB
      have hB : ∀ S, S < 32 → B S ≤ 7776 := fun S hS => rd_Bl hP EB hS
      have hB00 := hB 0 (by decide)
      have e0 := re_df_0 P hP
      have G := re_Gr hP EB (ra_cn P) 0 code (by decide) (re_s0 P) (by rw [e0]) hc (by rw [e0]; exact hg) (fun code' h => by rw [e0]; exact hbad code' h)
      rw [e0] at G
      exact pk_eq (B 0) 0 (fun z => absurd z (by omega)) (fun _ => ⟨_, rd_a19 hP hm T hB (re_spl (ra_cn P) P code) 0 0 o (by omega) (by decide) (re_s0 P) G (h _ ⟨ra_f B, ra_f A, rfl⟩)⟩) rfl rfl (by omega) (by omega)
    · unfold wpY_arrange
      exact rf_ord hm ⟨code + 1, rf_a7 hP T hc hg hbad (fun ar lf gv => h _ ⟨ar, lf, gv, rfl⟩) (code + 1) 0 ar lf gv (by omega) (by omega)⟩
  · refine ⟨0, P, c, d, p, o, ⟨hP, T, O⟩, fun post h => ?_, fun post h => ?_⟩
    · unfold wpX_arrange
      refine rd_fill hP T (fun B A EB EA => ?_)
      have hB0 := re_B0 hP EB
      exact pk_eq (B 0) 0 (fun z => h _ ⟨ra_f B, ra_f A, rfl⟩) (fun z => absurd z (by omega)) rfl rfl (by omega) (by omega)
    · unfold wpY_arrange
      exact rf_ord hm ⟨_, rf_a7n hP T (fun code hc => ra_nf (fun z => hN (re_N_pos.mpr ⟨code, hc, z⟩))) (fun ar lf gv => h _ ⟨ar, lf, gv, rfl⟩) (re_fa (ra_cn P) + 1) 0 ar lf gv (by omega) (by omega)⟩
theorem rg_canBeLast (R : rg_R P c d p o) (X : rg_X P c d p o u) (Y : rg_Y P c d p o v) :
    ∃ r : Int32, (∀ post : Int32 → SX → Prop, (∀ u', rg_X P c d p o u' → post r u') → wpX_canBeLast post u) ∧ (∀ post : Int32 → SY → Prop, (∀ v', rg_Y P c d p o v' → post r v') → wpY_canBeLast post v) := by
  obtain ⟨hP, T, O⟩ := R
  obtain ⟨bl, am, rfl⟩ := X
  obtain ⟨ar, lf, gv, rfl⟩ := Y
  have hm := ra_cn_le P hP
  by_cases h0 : 0 < ra_cn P
  · refine ⟨nI (rf_or (rf_t (rb_in c d p) P) (rf_v P) (re_fa (ra_cn P))), fun post h => ?_, fun post h => ?_⟩
    · unfold wpX_canBeLast
      refine rd_fill hP T (fun B A EB EA => ⟨6, rd_l8 hP T (fun S hS => rd_Al EA hS) ?_ 6 0 (by omega) (by omega)⟩)
      rw [rf_last hP h0 EA]
      exact h _ ⟨ra_f B, ra_f A, rfl⟩
    · unfold wpY_canBeLast
      exact rf_ord hm ⟨re_fa (ra_cn P) + 1, rf_l9 hP h0 T (fun ar lf gv => h _ ⟨ar, lf, gv, rfl⟩) _ 0 ar lf gv (by omega) (by omega)⟩
  · have hc0 : ra_cn P = 0 := by omega
    have hP0 := ra_cn_0 P hP hc0
    refine ⟨nI 0, fun post h => ?_, fun post h => ?_⟩
    · unfold wpX_canBeLast
      refine rd_fill hP T (fun B A EB EA => ⟨6, rd_l8 hP T (fun S hS => rd_Al EA hS) ?_ 6 0 (by omega) (by omega)⟩)
      have e : rb_bs (rd_la (rb_in c d p) P A) 5 = 0 := by
        apply ra_ext _ (rb_bs_lt 5 (by omega)) _ (by decide)
        intro j hj
        rw [Nat.zero_testBit]
        refine ra_nf (fun z => ?_)
        have z2 := ((rb_bs_t 5).mp z).2
        unfold rd_la at z2
        rw [hP0, Nat.zero_testBit, Bool.false_and] at z2
        exact absurd z2 (by decide)
      rw [e]
      exact h _ ⟨ra_f B, ra_f A, rfl⟩
    · unfold wpY_canBeLast
      have q := h _ ⟨ar, lf, gv, rfl⟩
      have hf : re_fa (ra_cn P) = 1 := by rw [hc0]; rfl
      refine rf_ord hm ⟨1, pk_le (re_fa (ra_cn P)) 0 (fun z => absurd z (by omega)) (fun _ => pk_le (ra_cn P) 0 (fun _ => q) (fun z => absurd z (by omega)) rfl rfl (by omega) (by omega)) rfl rfl (by omega) (by omega)⟩
/-! room -/
def rg_gb (f : Nat → Bool) : Nat → Nat
  | 0 => 0
  | t + 1 => if f (t + 1) = true then t + 1 else rg_gb f t
def rg_lb (f : Nat → Bool) : Nat → Nat
  | 0 => 0
  | t + 1 => if f (15 - t) = true then 15 - t else rg_lb f t
def rg_fc (P : Nat) (c d p o : Nat → Nat) (k x : Nat) : Bool := rb_ag P (rb_tk (rb_in (ra_u c k x) d p) o (ra_cn P))
def rg_fp (P : Nat) (c d p o : Nat → Nat) (k x : Nat) : Bool := rb_ag P (rb_tk (rb_in c d (ra_u p k x)) o (ra_cn P))
theorem rg_Tc {k x : Nat} (T : rb_T P c d p) (h1 : 1 ≤ x) (h2 : x ≤ d k) : rb_T P (ra_u c k x) d p := fun j hj hb => by
  have t := T j hj hb
  by_cases e : j = k
  · subst e; rw [ra_us]; omega
  · rw [ra_un e]; exact t
theorem rg_Tp {k x : Nat} (T : rb_T P c d p) (h1 : d k ≤ x) (h2 : x ≤ 15) : rb_T P c d (ra_u p k x) := fun j hj hb => by
  have t := T j hj hb
  by_cases e : j = k
  · subst e; rw [ra_us]; omega
  · rw [ra_un e]; exact t
theorem rg_gX {post : Int32 → SX → Prop} {k : Nat} {bl am : Nat → Int32} (hP : P < 32) (T : rb_T P c d p) (O : rb_O P (ra_cn P) o) (hk : k < 5) (hb : P.testBit k = true)
    (hp : post (nI (rg_gb (rg_fc P c d p o k) (d k))) (nI P, nI (ra_cn P), ra_f c, ra_f d, ra_f p, ra_f o, bl, am)) :
    ∀ n t y, t ≤ d k → d k - t < n → wX_greatestCost_22 post (nI k) (nI (c k)) (nI P) (nI (ra_cn P)) n (nI (rg_gb (rg_fc P c d p o k) t)) (nI (t + 1)) (ra_f (ra_u c k y)) (ra_f d) (ra_f p) (ra_f o) bl am := by
  have tk := T k hk hb
  have hm := ra_cn_le P hP
  intro n
  induction n with
  | zero => intro t y _ h; omega
  | succ n ih =>
    intro t y ht hn
    refine ⟨vp_in_nI hk (by omega), pk_lt (d k) (t + 1) (fun h => ⟨vp_in_nI hk (by omega), nm_r (e' := ra_f c) ?_ ?_⟩) (fun h => ⟨vp_in_nI hk (by omega), nm_r (e' := ra_f (ra_u c k (t + 1))) ?_ (xa_good hP hm (rg_Tc T (by omega) (by omega)) O ?_)⟩) (ra_fk (by omega)) rfl (by omega) (by omega)⟩
    · rw [ra_nb (by omega), ra_fuk _ (by omega), ra_uu, ra_ue]
    · have e : t = d k := by omega
      rw [e]; exact hp
    · rw [ra_nb2 (by omega), ra_fuk _ (by omega), ra_uu]
    · have J := ih (t + 1) (t + 1) (by omega) (by omega)
      show (ra_b (rg_fc P c d p o k (t + 1)) = 0 → _) ∧ (¬ ra_b (rg_fc P c d p o k (t + 1)) = 0 → _)
      refine br_c (fun z => nm_r (nI_1 (t + 1)) ?_) (fun z => nm_r (nI_1 (t + 1)) ?_)
      · have e : rg_gb (rg_fc P c d p o k) (t + 1) = rg_gb (rg_fc P c d p o k) t := if_neg (by rw [ra_bz.mp z]; decide)
        rw [e] at J; exact J
      · have e : rg_gb (rg_fc P c d p o k) (t + 1) = t + 1 := if_pos (ra_nt (fun q => z (ra_bz.mpr q)))
        rw [e] at J; exact J
theorem rg_gY {post : Int32 → SY → Prop} {k : Nat} {w : Nat → Nat} (hP : P < 32) (T : rb_T P c d p) (O : rb_O P (ra_cn P) o) (hw : ∀ i, i < ra_cn P → w i = o i) (hk : k < 5) (hb : P.testBit k = true)
    (hp : ∀ lf gv : Nat → Int32, post (nI (rg_gb (rg_fc P c d p o k) (d k))) (nI (ra_cn P), ra_t P, ra_f c, ra_f d, ra_f p, ra_f o, ra_f w, lf, gv)) :
    ∀ n t y (lf gv : Nat → Int32), t ≤ d k → d k - t < n → wY_greatestCost_26 post (nI k) (nI (c k)) n (nI (rg_gb (rg_fc P c d p o k) t)) (nI (t + 1)) (nI (ra_cn P)) (ra_t P) (ra_f (ra_u c k y)) (ra_f d) (ra_f p) (ra_f o) (ra_f w) lf gv := by
  have tk := T k hk hb
  have hm := ra_cn_le P hP
  intro n
  induction n with
  | zero => intro t y _ _ _ h; omega
  | succ n ih =>
    intro t y lf gv ht hn
    refine ⟨vp_in_nI hk (by omega), pk_lt (d k) (t + 1) (fun h => ⟨vp_in_nI hk (by omega), nm_r (e' := ra_f c) ?_ ?_⟩) (fun h => ⟨vp_in_nI hk (by omega), nm_r (e' := ra_f (ra_u c k (t + 1))) ?_ (ya_ap hP hm (rg_Tc T (by omega) (by omega)) (rb_Oc O hw) (fun lf gv => ?_))⟩) (ra_fk (by omega)) rfl (by omega) (by omega)⟩
    · rw [ra_fuk _ (by omega), ra_uu, ra_ue]
    · have e : t = d k := by omega
      rw [e]; exact hp lf gv
    · rw [ra_fuk _ (by omega), ra_uu]
    · have J := ih (t + 1) (t + 1) lf gv (by omega) (by omega)
      rw [rb_ag_c (rb_tk_c hw)]
      refine br_c (fun z => nm_r (nI_1 (t + 1)) ?_) (fun z => nm_r (nI_1 (t + 1)) ?_)
      · have z2 : rg_fc P c d p o k (t + 1) = false := ra_bz.mp z
        have e : rg_gb (rg_fc P c d p o k) (t + 1) = rg_gb (rg_fc P c d p o k) t := if_neg (by rw [z2]; decide)
        rw [e] at J; exact J
      · have z2 : rg_fc P c d p o k (t + 1) = true := ra_nt (fun q => z (ra_bz.mpr q))
        have e : rg_gb (rg_fc P c d p o k) (t + 1) = t + 1 := if_pos z2
        rw [e] at J; exact J
theorem rg_lX {post : Int32 → SX → Prop} {k : Nat} {bl am : Nat → Int32} (hP : P < 32) (T : rb_T P c d p) (O : rb_O P (ra_cn P) o) (hk : k < 5) (hb : P.testBit k = true)
    (hp : post (nI (rg_lb (rg_fp P c d p o k) (16 - d k))) (nI P, nI (ra_cn P), ra_f c, ra_f d, ra_f p, ra_f o, bl, am)) :
    ∀ n t y, t ≤ 16 - d k → 16 - d k - t < n → wX_leastPeriod_23 post (nI k) (nI (p k)) (nI P) (nI (ra_cn P)) n (nI (rg_lb (rg_fp P c d p o k) t)) (nI (15 - t)) (ra_f c) (ra_f d) (ra_f (ra_u p k y)) (ra_f o) bl am := by
  have tk := T k hk hb
  have hm := ra_cn_le P hP
  intro n
  induction n with
  | zero => intro t y _ h; omega
  | succ n ih =>
    intro t y ht hn
    refine ⟨vp_in_nI hk (by omega), pk_lt (15 - t) (d k) (fun h => ⟨vp_in_nI hk (by omega), nm_r (e' := ra_f p) ?_ ?_⟩) (fun h => ⟨vp_in_nI hk (by omega), nm_r (e' := ra_f (ra_u p k (15 - t))) ?_ (xa_good hP hm (rg_Tp T (by omega) (by omega)) O ?_)⟩) rfl (ra_fk (by omega)) (by omega) (by omega)⟩
    · rw [ra_nb (by omega), ra_fuk _ (by omega), ra_uu, ra_ue]
    · have e : t = 16 - d k := by omega
      rw [e]; exact hp
    · rw [ra_nb2 (by omega), ra_fuk _ (by omega), ra_uu]
    · have J := ih (t + 1) (15 - t) (by omega) (by omega)
      have em : nI (15 - t) + (-1) = nI (15 - (t + 1)) := by
        rw [show 15 - t = 15 - (t + 1) + 1 from by omega]; exact pk_m1 _
      refine br_c (fun z => nm_r em ?_) (fun z => nm_r em ?_)
      · have z2 : rg_fp P c d p o k (15 - t) = false := ra_bz.mp z
        have e : rg_lb (rg_fp P c d p o k) (t + 1) = rg_lb (rg_fp P c d p o k) t := if_neg (by rw [z2]; decide)
        rw [e] at J; exact J
      · have z2 : rg_fp P c d p o k (15 - t) = true := ra_nt (fun q => z (ra_bz.mpr q))
        have e : rg_lb (rg_fp P c d p o k) (t + 1) = 15 - t := if_pos z2
        rw [e] at J; exact J
theorem rg_lY {post : Int32 → SY → Prop} {k : Nat} {w : Nat → Nat} (hP : P < 32) (T : rb_T P c d p) (O : rb_O P (ra_cn P) o) (hw : ∀ i, i < ra_cn P → w i = o i) (hk : k < 5) (hb : P.testBit k = true)
    (hp : ∀ lf gv : Nat → Int32, post (nI (rg_lb (rg_fp P c d p o k) (16 - d k))) (nI (ra_cn P), ra_t P, ra_f c, ra_f d, ra_f p, ra_f o, ra_f w, lf, gv)) :
    ∀ n t y (lf gv : Nat → Int32), t ≤ 16 - d k → 16 - d k - t < n → wY_leastPeriod_27 post (nI k) (nI (p k)) n (nI (rg_lb (rg_fp P c d p o k) t)) (nI (15 - t)) (nI (ra_cn P)) (ra_t P) (ra_f c) (ra_f d) (ra_f (ra_u p k y)) (ra_f o) (ra_f w) lf gv := by
  have tk := T k hk hb
  have hm := ra_cn_le P hP
  intro n
  induction n with
  | zero => intro t y _ _ _ h; omega
  | succ n ih =>
    intro t y lf gv ht hn
    refine ⟨vp_in_nI hk (by omega), pk_lt (15 - t) (d k) (fun h => ⟨vp_in_nI hk (by omega), nm_r (e' := ra_f p) ?_ ?_⟩) (fun h => ⟨vp_in_nI hk (by omega), nm_r (e' := ra_f (ra_u p k (15 - t))) ?_ (ya_ap hP hm (rg_Tp T (by omega) (by omega)) (rb_Oc O hw) (fun lf gv => ?_))⟩) rfl (ra_fk (by omega)) (by omega) (by omega)⟩
    · rw [ra_fuk _ (by omega), ra_uu, ra_ue]
    · have e : t = 16 - d k := by omega
      rw [e]; exact hp lf gv
    · rw [ra_fuk _ (by omega), ra_uu]
    · have J := ih (t + 1) (15 - t) lf gv (by omega) (by omega)
      have em : nI (15 - t) + (-1) = nI (15 - (t + 1)) := by
        rw [show 15 - t = 15 - (t + 1) + 1 from by omega]; exact pk_m1 _
      rw [rb_ag_c (rb_tk_c hw)]
      refine br_c (fun z => nm_r em ?_) (fun z => nm_r em ?_)
      · have z2 : rg_fp P c d p o k (15 - t) = false := ra_bz.mp z
        have e : rg_lb (rg_fp P c d p o k) (t + 1) = rg_lb (rg_fp P c d p o k) t := if_neg (by rw [z2]; decide)
        rw [e] at J; exact J
      · have z2 : rg_fp P c d p o k (15 - t) = true := ra_nt (fun q => z (ra_bz.mpr q))
        have e : rg_lb (rg_fp P c d p o k) (t + 1) = 15 - t := if_pos z2
        rw [e] at J; exact J
theorem rg_greatestCost (R : rg_R P c d p o) (X : rg_X P c d p o u) (Y : rg_Y P c d p o v) (v1 : Int32) :
    ∃ r : Int32, (∀ post : Int32 → SX → Prop, (∀ u', rg_X P c d p o u' → post r u') → wpX_greatestCost post u v1) ∧ (∀ post : Int32 → SY → Prop, (∀ v', rg_Y P c d p o v' → post r v') → wpY_greatestCost post v v1) := by
  obtain ⟨hP, T, O⟩ := R
  obtain ⟨bl, am, rfl⟩ := X
  obtain ⟨ar, lf, gv, rfl⟩ := Y
  have hm := ra_cn_le P hP
  rcases rg_key hP O v1 with hx | ⟨k, hk, rfl, hb⟩ | ⟨k, a, hk, rfl, hb, ha, he, hf⟩
  · refine ⟨-1, fun post h => ?_, fun post h => ?_⟩
    · unfold wpX_greatestCost
      exact xa_hasN hx (br_t rfl (h _ ⟨bl, am, rfl⟩))
    · unfold wpY_greatestCost
      exact ya_isN hx (br_t rfl (h _ ⟨ar, lf, gv, rfl⟩))
  · refine ⟨-1, fun post h => ?_, fun post h => ?_⟩
    · unfold wpX_greatestCost
      exact xa_has hP hk (fun z => absurd (hb.symm.trans z) (by decide)) (fun _ => br_t rfl (h _ ⟨bl, am, rfl⟩))
    · unfold wpY_greatestCost
      exact ya_is hk (fun z => absurd (hb.symm.trans z) (by decide)) (fun _ => br_t rfl (h _ ⟨ar, lf, gv, rfl⟩))
  · refine ⟨nI (rg_gb (rg_fc P c d p o k) (d k)), fun post h => ?_, fun post h => ?_⟩
    · unfold wpX_greatestCost
      have q := rg_gX (post := post) hP T O hk hb (h _ ⟨bl, am, rfl⟩) (d k + 1) 0 (c k) (by omega) (by omega)
      rw [ra_ue] at q
      exact xa_has hP hk (fun _ => br_f ra_10 ⟨vp_in_nI hk (by omega), nm_r (ra_fk (by omega)) ⟨d k + 1, q⟩⟩) (fun z => absurd (hb.symm.trans z) (by decide))
    · unfold wpY_greatestCost
      refine ya_is hk (fun _ => br_f ra_10 (ya_uo hm (fun w hw => ?_))) (fun z => absurd (hb.symm.trans z) (by decide))
      have q := rg_gY (post := post) hP T O hw hk hb (fun lf gv => h _ ⟨ra_f w, lf, gv, rfl⟩) (d k + 1) 0 (c k) lf gv (by omega) (by omega)
      rw [ra_ue] at q
      exact ⟨vp_in_nI hk (by omega), nm_r (ra_fk (by omega)) ⟨d k + 1, q⟩⟩
theorem rg_leastPeriod (R : rg_R P c d p o) (X : rg_X P c d p o u) (Y : rg_Y P c d p o v) (v1 : Int32) :
    ∃ r : Int32, (∀ post : Int32 → SX → Prop, (∀ u', rg_X P c d p o u' → post r u') → wpX_leastPeriod post u v1) ∧ (∀ post : Int32 → SY → Prop, (∀ v', rg_Y P c d p o v' → post r v') → wpY_leastPeriod post v v1) := by
  obtain ⟨hP, T, O⟩ := R
  obtain ⟨bl, am, rfl⟩ := X
  obtain ⟨ar, lf, gv, rfl⟩ := Y
  have hm := ra_cn_le P hP
  rcases rg_key hP O v1 with hx | ⟨k, hk, rfl, hb⟩ | ⟨k, a, hk, rfl, hb, ha, he, hf⟩
  · refine ⟨-1, fun post h => ?_, fun post h => ?_⟩
    · unfold wpX_leastPeriod
      exact xa_hasN hx (br_t rfl (h _ ⟨bl, am, rfl⟩))
    · unfold wpY_leastPeriod
      exact ya_isN hx (br_t rfl (h _ ⟨ar, lf, gv, rfl⟩))
  · refine ⟨-1, fun post h => ?_, fun post h => ?_⟩
    · unfold wpX_leastPeriod
      exact xa_has hP hk (fun z => absurd (hb.symm.trans z) (by decide)) (fun _ => br_t rfl (h _ ⟨bl, am, rfl⟩))
    · unfold wpY_leastPeriod
      exact ya_is hk (fun z => absurd (hb.symm.trans z) (by decide)) (fun _ => br_t rfl (h _ ⟨ar, lf, gv, rfl⟩))
  · refine ⟨nI (rg_lb (rg_fp P c d p o k) (16 - d k)), fun post h => ?_, fun post h => ?_⟩
    · unfold wpX_leastPeriod
      have q := rg_lX (post := post) hP T O hk hb (h _ ⟨bl, am, rfl⟩) 17 0 (p k) (by omega) (by omega)
      rw [ra_ue] at q
      exact xa_has hP hk (fun _ => br_f ra_10 ⟨vp_in_nI hk (by omega), nm_r (ra_fk (by omega)) ⟨17, q⟩⟩) (fun z => absurd (hb.symm.trans z) (by decide))
    · unfold wpY_leastPeriod
      refine ya_is hk (fun _ => br_f ra_10 (ya_uo hm (fun w hw => ?_))) (fun z => absurd (hb.symm.trans z) (by decide))
      have q := rg_lY (post := post) hP T O hw hk hb (fun lf gv => h _ ⟨ra_f w, lf, gv, rfl⟩) 17 0 (p k) lf gv (by omega) (by omega)
      rw [ra_ue] at q
      exact ⟨vp_in_nI hk (by omega), nm_r (ra_fk (by omega)) ⟨17, q⟩⟩
end
end
section
/-! the relation and what is owed -/
def i_Rel (_ : Nat) (u : SX) (v : SY) : Prop := ∃ (P : Nat) (c d p o : Nat → Nat), rg_R P c d p o ∧ rg_X P c d p o u ∧ rg_Y P c d p o v
theorem i_up {k : Nat} {u : SX} {v : SY} (h : i_Rel k u v) : i_Rel (k + 4) u v := h
theorem i_vc0 : wpX_init (fun u => wpY_init (fun v => i_Rel 0 u v)) := by
  refine ⟨0, fun _ => 0, fun _ => 0, fun _ => 0, fun _ => 0, ⟨by decide, fun j _ h => ?_, fun i hi => ?_, fun i j hi _ _ => ?_, fun k _ h => ?_⟩, ⟨fun _ => 0, fun _ => 0, rfl⟩, ⟨fun _ => 0, fun _ => 0, fun _ => 0, ?_⟩⟩
  · rw [Nat.zero_testBit] at h; exact absurd h (by decide)
  · exact absurd (show i < 0 from hi) (Nat.not_lt_zero i)
  · exact absurd (show i < 0 from hi) (Nat.not_lt_zero i)
  · rw [Nat.zero_testBit] at h; exact absurd h (by decide)
  · rw [← ra_t0]; rfl
theorem i_vc_add {k : Nat} {u : SX} {v : SY} (I : i_Rel k u v) (hk : k + 4 ≤ 2048) (v1 : Int32) (v2 : Int32) (v3 : Int32) : wpX_add (fun r u' => wpY_add (fun r' v' => r' = r ∧ i_Rel (k + 4) u' v') v v1 v2 v3) u v1 v2 v3 := by
  obtain ⟨P, c, d, p, o, R, X, Y⟩ := I
  obtain ⟨r, P', c', d', p', o', R', hX, hY⟩ := rg_add R X Y v1 v2 v3
  exact hX _ (fun u' X' => hY _ (fun v' Y' => ⟨rfl, P', c', d', p', o', R', X', Y'⟩))
theorem i_vc_remove {k : Nat} {u : SX} {v : SY} (I : i_Rel k u v) (hk : k + 4 ≤ 2048) (v1 : Int32) : wpX_remove (fun r u' => wpY_remove (fun r' v' => r' = r ∧ i_Rel (k + 4) u' v') v v1) u v1 := by
  obtain ⟨P, c, d, p, o, R, X, Y⟩ := I
  obtain ⟨r, P', c', d', p', o', R', hX, hY⟩ := rg_remove R v1
  exact hX _ X _ (fun u' X' => hY _ Y _ (fun v' Y' => ⟨rfl, P', c', d', p', o', R', X', Y'⟩))
theorem i_vc_place {k : Nat} {u : SX} {v : SY} (I : i_Rel k u v) (hk : k + 4 ≤ 2048) (v1 : Int32) (v2 : Int32) : wpX_place (fun r u' => wpY_place (fun r' v' => r' = r ∧ i_Rel (k + 4) u' v') v v1 v2) u v1 v2 := by
  obtain ⟨P, c, d, p, o, R, X, Y⟩ := I
  obtain ⟨r, P', c', d', p', o', R', hX, hY⟩ := rg_place R X Y v1 v2
  exact hX _ (fun u' X' => hY _ (fun v' Y' => ⟨rfl, P', c', d', p', o', R', X', Y'⟩))
theorem rh_tasks4 {P : Nat} {fs : Int32} {ac al ap ao ar lf gv : Nat → Int32} {post : Int32 → Prop} (hp : post (nI (rb_bs (Nat.testBit P) 5))) :
    ∀ n k, k ≤ 5 → 5 - k < n → wY_tasks_4 post fs (ra_t P) ac al ap ao ar lf gv n (nI (rb_bs (Nat.testBit P) k)) (nI k) := by
  intro n
  induction n with
  | zero => intro k _ h; omega
  | succ n ih =>
    intro k hk hn
    refine pk_le 5 k (fun h => ?_) (fun h => ⟨vp_in_nI h (by omega), br_c (fun z => nm_r (nI_1 k) ?_) (fun z => nm_r (ra_orI _ (rb_bs_lt k (by omega)) k h) (nm_r (nI_1 k) ?_))⟩) rfl rfl (by omega) (by omega)
    · have e : k = 5 := by omega
      subst e; exact hp
    · have J := ih (k + 1) (by omega) (by omega)
      have e : rb_bs (Nat.testBit P) (k + 1) = rb_bs (Nat.testBit P) k := if_neg (by rw [(ya_th h).mp z]; decide)
      rw [e] at J; exact J
    · have J := ih (k + 1) (by omega) (by omega)
      have e : rb_bs (Nat.testBit P) (k + 1) = rb_bs (Nat.testBit P) k ||| 2 ^ k := if_pos (ra_nt (fun q => z ((ya_th h).mpr q)))
      rw [e] at J; exact J
theorem i_vc_tasks {k : Nat} {u : SX} {v : SY} (I : i_Rel k u v) (hk : k + 4 ≤ 2048) : wpX_tasks (fun r => wpY_tasks (fun r' => r' = r ∧ i_Rel (k + 4) u v) v) u := by
  have I' : i_Rel (k + 4) u v := I
  obtain ⟨P, c, d, p, o, ⟨hP, T, O⟩, ⟨bl, am, rfl⟩, ⟨ar, lf, gv, rfl⟩⟩ := I
  have e : rb_bs (Nat.testBit P) 5 = P := ra_ext _ (rb_bs_lt 5 (by omega)) _ hP (fun j hj => ra_beq ((rb_bs_t 5).trans ⟨fun h => h.2, fun h => ⟨hj, h⟩⟩))
  unfold wpX_tasks wpY_tasks
  exact ⟨6, rh_tasks4 ⟨by rw [e], I'⟩ 6 0 (by omega) (by omega)⟩
theorem i_vc_at {k : Nat} {u : SX} {v : SY} (I : i_Rel k u v) (hk : k + 4 ≤ 2048) (v1 : Int32) : wpX_at (fun r => wpY_at (fun r' => r' = r ∧ i_Rel (k + 4) u v) v v1) u v1 := by
  have I' : i_Rel (k + 4) u v := I
  obtain ⟨P, c, d, p, o, ⟨hP, T, O⟩, ⟨bl, am, rfl⟩, ⟨ar, lf, gv, rfl⟩⟩ := I
  have hm := ra_cn_le P hP
  by_cases n0 : v1 < 0
  · exact br_t n0 (br_t n0 ⟨rfl, I'⟩)
  · obtain ⟨i, hi, rfl⟩ := nI_of n0
    by_cases h : i < ra_cn P
    · have n1 : nI i < nI (ra_cn P) := (nI_ltI hi (by omega)).mpr h
      exact br_f n0 (br_t n1 ⟨vp_in_nI (by omega) (by omega), br_f n0 (br_f (nI_ge h (by omega)) ⟨vp_in_nI (by omega) (by omega), rfl, I'⟩)⟩)
    · have n1 : ¬ nI i < nI (ra_cn P) := nI_nlt (by omega) hi
      exact br_f n0 (br_f n1 (br_f n0 (br_t (nI_le (by omega) hi) ⟨rfl, I'⟩)))
theorem i_vc_response {k : Nat} {u : SX} {v : SY} (I : i_Rel k u v) (hk : k + 4 ≤ 2048) (v1 : Int32) : wpX_response (fun r => wpY_response (fun r' v' => r' = r ∧ i_Rel (k + 4) u v') v v1) u v1 := by
  obtain ⟨P, c, d, p, o, R, X, Y⟩ := I
  have X' := X
  have R' := R
  obtain ⟨hP, T, O⟩ := R
  obtain ⟨bl, am, rfl⟩ := X
  obtain ⟨ar, lf, gv, rfl⟩ := Y
  have hm := ra_cn_le P hP
  rcases rg_key hP O v1 with hx | ⟨j, hj, rfl, hb⟩ | ⟨j, a, hj, rfl, hb, ha, he, hf⟩
  · unfold wpX_response
    refine xa_hasN hx (br_t rfl ?_)
    unfold wpY_response
    exact ya_uo hm (fun w hw => ya_isN hx (br_t rfl ⟨rfl, P, c, d, p, o, R', X', ⟨_, _, _, rfl⟩⟩))
  · unfold wpX_response
    refine xa_has hP hj (fun z => absurd (hb.symm.trans z) (by decide)) (fun _ => br_t rfl ?_)
    unfold wpY_response
    exact ya_uo hm (fun w hw => ya_is hj (fun z => absurd (hb.symm.trans z) (by decide)) (fun _ => br_t rfl ⟨rfl, P, c, d, p, o, R', X', ⟨_, _, _, rfl⟩⟩))
  · subst he
    exact xa_response hP hm T O hj hb ha rfl (ya_response hP hm T O ha (fun ar lf gv => ⟨rfl, P, c, d, p, o, R', X', ⟨_, _, _, rfl⟩⟩))
theorem i_vc_good {k : Nat} {u : SX} {v : SY} (I : i_Rel k u v) (hk : k + 4 ≤ 2048) : wpX_good (fun r => wpY_good (fun r' v' => r' = r ∧ i_Rel (k + 4) u v') v) u := by
  obtain ⟨P, c, d, p, o, R, X, Y⟩ := I
  have X' := X
  have R' := R
  obtain ⟨hP, T, O⟩ := R
  obtain ⟨bl, am, rfl⟩ := X
  obtain ⟨ar, lf, gv, rfl⟩ := Y
  have hm := ra_cn_le P hP
  exact xa_good hP hm T O (ya_good hP hm T O (fun ar lf gv => ⟨rfl, P, c, d, p, o, R', X', ⟨_, _, _, rfl⟩⟩))
theorem i_vc_inTime {k : Nat} {u : SX} {v : SY} (I : i_Rel k u v) (hk : k + 4 ≤ 2048) : wpX_inTime (fun r => wpY_inTime (fun r' v' => r' = r ∧ i_Rel (k + 4) u v') v) u := by
  obtain ⟨P, c, d, p, o, R, X, Y⟩ := I
  have X' := X
  have R' := R
  obtain ⟨hP, T, O⟩ := R
  obtain ⟨bl, am, rfl⟩ := X
  obtain ⟨ar, lf, gv, rfl⟩ := Y
  have hm := ra_cn_le P hP
  exact xa_inTime hP hm T O (ya_inTime hP hm T O (fun ar lf gv => ⟨rfl, P, c, d, p, o, R', X', ⟨_, _, _, rfl⟩⟩))
theorem i_vc_goodOrders {k : Nat} {u : SX} {v : SY} (I : i_Rel k u v) (hk : k + 4 ≤ 2048) : wpX_goodOrders (fun r u' => wpY_goodOrders (fun r' v' => r' = r ∧ i_Rel (k + 4) u' v') v) u := by
  obtain ⟨P, c, d, p, o, R, X, Y⟩ := I
  obtain ⟨hX, hY⟩ := rg_goodOrders R X Y
  exact hX _ (fun u' X' => hY _ (fun v' Y' => ⟨rfl, P, c, d, p, o, R, X', Y'⟩))
theorem i_vc_arrange {k : Nat} {u : SX} {v : SY} (I : i_Rel k u v) (hk : k + 4 ≤ 2048) : wpX_arrange (fun r u' => wpY_arrange (fun r' v' => r' = r ∧ i_Rel (k + 4) u' v') v) u := by
  obtain ⟨P, c, d, p, o, R, X, Y⟩ := I
  obtain ⟨r, P', c', d', p', o', R', hX, hY⟩ := rg_arrange R X Y
  exact hX _ (fun u' X' => hY _ (fun v' Y' => ⟨rfl, P', c', d', p', o', R', X', Y'⟩))
theorem i_vc_canBeLast {k : Nat} {u : SX} {v : SY} (I : i_Rel k u v) (hk : k + 4 ≤ 2048) : wpX_canBeLast (fun r u' => wpY_canBeLast (fun r' v' => r' = r ∧ i_Rel (k + 4) u' v') v) u := by
  obtain ⟨P, c, d, p, o, R, X, Y⟩ := I
  obtain ⟨r, hX, hY⟩ := rg_canBeLast R X Y
  exact hX _ (fun u' X' => hY _ (fun v' Y' => ⟨rfl, P, c, d, p, o, R, X', Y'⟩))
theorem i_vc_greatestCost {k : Nat} {u : SX} {v : SY} (I : i_Rel k u v) (hk : k + 4 ≤ 2048) (v1 : Int32) : wpX_greatestCost (fun r u' => wpY_greatestCost (fun r' v' => r' = r ∧ i_Rel (k + 4) u' v') v v1) u v1 := by
  obtain ⟨P, c, d, p, o, R, X, Y⟩ := I
  obtain ⟨r, hX, hY⟩ := rg_greatestCost R X Y v1
  exact hX _ (fun u' X' => hY _ (fun v' Y' => ⟨rfl, P, c, d, p, o, R, X', Y'⟩))
theorem i_vc_leastPeriod {k : Nat} {u : SX} {v : SY} (I : i_Rel k u v) (hk : k + 4 ≤ 2048) (v1 : Int32) : wpX_leastPeriod (fun r u' => wpY_leastPeriod (fun r' v' => r' = r ∧ i_Rel (k + 4) u' v') v v1) u v1 := by
  obtain ⟨P, c, d, p, o, R, X, Y⟩ := I
  obtain ⟨r, hX, hY⟩ := rg_leastPeriod R X Y v1
  exact hX _ (fun u' X' => hY _ (fun v' Y' => ⟨rfl, P, c, d, p, o, R, X', Y'⟩))
theorem i_vc_idle {k : Nat} {u : SX} {v : SY} (I : i_Rel k u v) (hk : k + 4 ≤ 2048) (v1 : Int32) : wpX_idle (fun r => wpY_idle (fun r' v' => r' = r ∧ i_Rel (k + 4) u v') v v1) u v1 := by
  obtain ⟨P, c, d, p, o, R, X, Y⟩ := I
  have X' := X
  have R' := R
  obtain ⟨hP, T, O⟩ := R
  obtain ⟨bl, am, rfl⟩ := X
  obtain ⟨ar, lf, gv, rfl⟩ := Y
  have hm := ra_cn_le P hP
  exact xa_idle hP (rb_TK T (fun _ _ h => h)) (ya_idle hP hm T O (fun ar lf gv => ⟨rfl, P, c, d, p, o, R', X', ⟨_, _, _, rfl⟩⟩))
theorem i_vc_fits {k : Nat} {u : SX} {v : SY} (I : i_Rel k u v) (hk : k + 4 ≤ 2048) (v1 : Int32) (v2 : Int32) (v3 : Int32) : wpX_fits (fun r u' => wpY_fits (fun r' v' => r' = r ∧ i_Rel (k + 4) u' v') v v1 v2 v3) u v1 v2 v3 := by
  obtain ⟨P, c, d, p, o, R, X, Y⟩ := I
  obtain ⟨r, P', c', d', p', o', R', hX, hY⟩ := rg_add R X Y v1 v2 v3
  obtain ⟨bl, am, rfl⟩ := X
  obtain ⟨ar, lf, gv, rfl⟩ := Y
  obtain ⟨r2, P2, c2, d2, p2, o2, R2, hX2, hY2⟩ := rg_remove R' r
  unfold wpX_fits
  refine hX _ (fun u1 X1 => ?_)
  have X1' := X1
  obtain ⟨bl1, am1, rfl⟩ := X1
  by_cases h0 : 0 ≤ r
  · refine br_t h0 ((rg_goodOrders R' X1' ⟨ar, lf, gv, rfl⟩).1 _ (fun u2 X2 => ?_))
    have X2' := X2
    obtain ⟨bl2, am2, rfl⟩ := X2
    refine hX2 _ X2' _ (fun u3 X3 => ?_)
    have X3' := X3
    obtain ⟨bl3, am3, rfl⟩ := X3
    by_cases hN : nI (re_N (rb_in c' d' p') (ra_cn P') 0 P') ≤ 0
    · refine br_t hN ?_
      unfold wpY_fits
      refine hY _ (fun v1 Y1 => ?_)
      have Y1' := Y1
      obtain ⟨ar1, lf1, gv1, rfl⟩ := Y1
      refine br_t h0 ((rg_goodOrders R' X1' Y1').2 _ (fun v2 Y2 => ?_))
      have Y2' := Y2
      obtain ⟨ar2, lf2, gv2, rfl⟩ := Y2
      refine br_t hN ?_
      unfold wY_fits_28
      refine hY2 _ Y2' _ (fun v3 Y3 => ?_)
      have Y3' := Y3
      obtain ⟨ar3, lf3, gv3, rfl⟩ := Y3
      exact ⟨ya_nb false, rfl, P2, c2, d2, p2, o2, R2, X3', Y3'⟩
    · refine br_f hN ?_
      unfold wpY_fits
      refine hY _ (fun v1 Y1 => ?_)
      have Y1' := Y1
      obtain ⟨ar1, lf1, gv1, rfl⟩ := Y1
      refine br_t h0 ((rg_goodOrders R' X1' Y1').2 _ (fun v2 Y2 => ?_))
      have Y2' := Y2
      obtain ⟨ar2, lf2, gv2, rfl⟩ := Y2
      refine br_f hN ?_
      unfold wY_fits_28
      refine hY2 _ Y2' _ (fun v3 Y3 => ?_)
      have Y3' := Y3
      obtain ⟨ar3, lf3, gv3, rfl⟩ := Y3
      exact ⟨ya_nb true, rfl, P2, c2, d2, p2, o2, R2, X3', Y3'⟩
  · refine br_f h0 ?_
    unfold wpY_fits
    refine hY _ (fun v1 Y1 => ?_)
    have Y1' := Y1
    obtain ⟨ar1, lf1, gv1, rfl⟩ := Y1
    exact br_f h0 ⟨rfl, P', c', d', p', o', R', X1', Y1'⟩
end
