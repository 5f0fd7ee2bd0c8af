section
/-! starting text: rows of kit/rows (PURE-ROWS, BITS) -/
theorem pk_us {f : Nat → Int32} {k : Nat} {x : Int32} : upd f k x k = x := if_pos rfl
theorem pk_un {f : Nat → Int32} {k j : Nat} {x : Int32} (h : j ≠ k) : upd f k x j = f j := if_neg h
theorem pk_sub {a b : Nat} (h : b ≤ a) : nI a - nI b = nI (a - b) := by
  obtain ⟨c, rfl⟩ : ∃ c, a = c + b := ⟨a - b, by omega⟩
  rw [← nI_add, Int32.add_sub_cancel, Nat.add_sub_cancel]
theorem pk_m1 (n : Nat) : nI (n + 1) + (-1) = nI n := by
  rw [← nI_1, Int32.add_assoc, show (1 : Int32) + (-1) = 0 from rfl, Int32.add_zero]
theorem pk_mul (a b : Nat) : nI a * nI b = nI (a * b) := (Int32.ofNat_mul a b).symm
theorem pk_div {a d : Nat} (ha : a < 2 ^ 31) (h0 : 0 < d) (hd : d < 2 ^ 31) : nI a / nI d = nI (a / d) := by
  apply Int32.toInt_inj.mp
  rw [lg_idiv_nonneg (by rw [nI_toInt ha]; omega) (by rw [nI_toInt hd]; omega), nI_toInt ha, nI_toInt hd, nI_toInt (Nat.lt_of_le_of_lt (Nat.div_le_self a d) ha)]
  first | rfl | exact (Int.natCast_ediv _ _).symm
theorem pk_rem {a d : Nat} (ha : a < 2 ^ 31) (h0 : 0 < d) (hd : d < 2 ^ 31) : nI a - nI a / nI d * nI d = nI (a % d) := by
  rw [pk_div ha h0 hd, pk_mul, pk_sub (Nat.div_mul_le_self a d)]
  exact congrArg nI (by have := Nat.div_add_mod' a d; omega)
theorem pk_ix (x : Int32) {n : Nat} (hn : n < 2 ^ 31) : x < 0 ∨ nI n ≤ x ∨ ∃ j : Nat, j < n ∧ x = nI j := by
  by_cases h : x < 0
  · exact Or.inl h
  · obtain ⟨j, hj, rfl⟩ := nI_of h
    by_cases h2 : j < n
    · exact Or.inr (Or.inr ⟨j, h2, rfl⟩)
    · exact Or.inr (Or.inl (nI_le (by omega) hj))
theorem pk_le {x y : Int32} {A B : Prop} (a b : Nat) (f : a ≤ b → A) (g : b < a → B) (hx : x = nI a := by rfl) (hy : y = nI b := by rfl) (ha : a < 2 ^ 31 := by omega) (hb : b < 2 ^ 31 := by omega) : (x ≤ y → A) ∧ (¬ x ≤ y → B) := by
  subst hx hy
  rw [nI_leI ha hb]
  exact ⟨f, fun z => g (by omega)⟩
theorem pk_lt {x y : Int32} {A B : Prop} (a b : Nat) (f : a < b → A) (g : b ≤ a → B) (hx : x = nI a := by rfl) (hy : y = nI b := by rfl) (ha : a < 2 ^ 31 := by omega) (hb : b < 2 ^ 31 := by omega) : (x < y → A) ∧ (¬ x < y → B) := by
  subst hx hy
  rw [nI_ltI ha hb]
  exact ⟨f, fun z => g (by omega)⟩
theorem pk_eq {x y : Int32} {A B : Prop} (a b : Nat) (f : a = b → A) (g : a ≠ b → B) (hx : x = nI a := by rfl) (hy : y = nI b := by rfl) (ha : a < 2 ^ 31 := by omega) (hb : b < 2 ^ 31 := by omega) : (x = y → A) ∧ (¬ x = y → B) := by
  subst hx hy
  rw [nI_eq ha hb]
  exact ⟨f, g⟩
theorem pk_in {x : Int32} (n N : Nat) (h : n < N) (hx : x = nI n := by rfl) (hN : N < 2 ^ 31 := by omega) : vp_in x N := by
  subst hx
  exact vp_in_nI h hN
theorem pk_cl {x : Int32} (n : Nat) (hx : x = nI n := by rfl) (h : n < 2 ^ 31 := by omega) : x.toNatClampNeg = n := by
  subst hx
  exact nI_clamp h
theorem pk_tn {n : Nat} (h : n < 2 ^ 32) : (nI n).toBitVec.toNat = n := Nat.mod_eq_of_lt h
theorem pk_and (x : Int32) {m : Int32} (k : Nat) (hm : m.toBitVec.toNat = 2 ^ k - 1) : x &&& m = nI (x.toBitVec.toNat % 2 ^ k) := by
  apply Int32.toBitVec_inj.mp
  apply BitVec.eq_of_toNat_eq
  rw [Int32.toBitVec_and, BitVec.toNat_and, hm, Nat.and_two_pow_sub_one_eq_mod]
  show _ = (BitVec.ofNat 32 _).toNat
  rw [BitVec.toNat_ofNat]
  exact (Nat.mod_eq_of_lt (Nat.lt_of_le_of_lt (Nat.mod_le _ _) x.toBitVec.isLt)).symm
theorem pk_andN {n : Nat} (h : n < 2 ^ 32) {m : Int32} (k : Nat) (hm : m.toBitVec.toNat = 2 ^ k - 1) : nI n &&& m = nI (n % 2 ^ k) := by
  rw [pk_and _ k hm, pk_tn h]
theorem pk_shr (a s : Int32) (k : Nat) (hs : (s.toBitVec.smod 32).toNat = k) : (a >>> s).toInt = a.toInt >>> k := by
  show (a.toBitVec.sshiftRight (s.toBitVec.smod 32).toNat).toInt = _
  rw [hs, BitVec.toInt_sshiftRight]
  rfl
theorem pk_shrN {n : Nat} (h : n < 2 ^ 31) (s : Int32) (k : Nat) (hs : (s.toBitVec.smod 32).toNat = k) : nI n >>> s = nI (n / 2 ^ k) := by
  apply Int32.toInt_inj.mp
  have h2 : n / 2 ^ k ≤ n := Nat.div_le_self _ _
  rw [pk_shr _ _ k hs, nI_toInt h, nI_toInt (by omega), Int.shiftRight_eq_div_pow]
  rfl
theorem pk_vb (z : Int32) : vp_nar .byte z.toInt8.toInt32 = z.toInt8.toInt32 := by rw [vp_nar_byte]; simp
theorem pk_loop {σ : Type} (W : Nat → Nat → σ → Prop) (I : Nat → σ → Prop) (e i0 : Nat) (s : σ) (hi : i0 ≤ e) (h0 : I i0 s) (hx : ∀ n s, I e s → W (n + 1) e s)
    (hs : ∀ n i s, i < e → I i s → (∀ s', I (i + 1) s' → W n (i + 1) s') → W (n + 1) i s) : ∃ n, W n i0 s :=
  ⟨e + 1, loop_i W I e hx hs (e + 1) i0 s hi (by omega) h0⟩
theorem pk_least (P : Nat → Prop) (h : ∃ k, P k) : ∃ k, P k ∧ ∀ j, j < k → ¬ P j := by
  obtain ⟨k, hk⟩ := h
  induction k using Nat.strongRecOn with
  | ind k ih =>
    by_cases e : ∃ j, j < k ∧ P j
    · obtain ⟨j, hj, pj⟩ := e
      exact ih j hj pj
    · exact ⟨k, hk, fun j hj pj => e ⟨j, hj, pj⟩⟩
def bt (x : Int32) (i : Nat) : Bool := x.toBitVec.getLsbD i
theorem b_ext {x y : Int32} (h : ∀ i, i < 32 → bt x i = bt y i) : x = y := Int32.toBitVec_inj.mp (BitVec.eq_of_getLsbD_eq (fun i hi => h i hi))
theorem b_or (x y : Int32) (i : Nat) : bt (x ||| y) i = (bt x i || bt y i) := by unfold bt; rw [Int32.toBitVec_or, BitVec.getLsbD_or]
theorem b_and (x y : Int32) (i : Nat) : bt (x &&& y) i = (bt x i && bt y i) := by unfold bt; rw [Int32.toBitVec_and, BitVec.getLsbD_and]
theorem b_big {x : Int32} {i : Nat} (h : 32 ≤ i) : bt x i = false := BitVec.getLsbD_of_ge _ _ h
theorem b_0 (i : Nat) : bt 0 i = false := BitVec.getLsbD_zero
theorem s_l : ∀ n, n < 32 → ((nI n &&& 31).toBitVec.smod 32).toNat = n := by decide +kernel
theorem b_shl (n : Nat) (hn : n < 32) (x : Int32) {i : Nat} (hi : i < 32) : bt (x <<< (nI n &&& 31)) i = (decide (n ≤ i) && bt x (i - n)) := by
  unfold bt
  rw [Int32.toBitVec_shiftLeft]
  show (x.toBitVec <<< ((nI n &&& 31).toBitVec.smod 32).toNat).getLsbD i = _
  rw [s_l n hn, BitVec.getLsbD_shiftLeft]
  rcases Nat.lt_or_ge i n with h | h
  · simp [h, Nat.not_le.mpr h]
  · simp [hi, h, Nat.not_lt.mpr h]
theorem b_sshr (n : Nat) (hn : n < 32) (x : Int32) {i : Nat} (hi : i < 32) : bt (x >>> (nI n &&& 31)) i = if n + i < 32 then bt x (n + i) else bt x 31 := by
  unfold bt
  rw [Int32.toBitVec_shiftRight]
  show (x.toBitVec.sshiftRight ((nI n &&& 31).toBitVec.smod 32).toNat).getLsbD i = _
  rw [s_l n hn, BitVec.getLsbD_sshiftRight, BitVec.msb_eq_getLsbD_last]
  simp [hi]
end
section
/-! natural numbers: updates, codes (a number or -1), counts, the pigeonhole, sums by first occurrence -/
def cw_un (f : Nat → Nat) (k x : Nat) : Nat → Nat := fun j => if j = k then x else f j
theorem cw_us {f : Nat → Nat} {k x : Nat} : cw_un f k x k = x := if_pos rfl
theorem cw_ud {f : Nat → Nat} {k x j : Nat} (h : j ≠ k) : cw_un f k x j = f j := if_neg h
theorem cw_uu (f : Nat → Nat) (k x y : Nat) : cw_un (cw_un f k x) k y = cw_un f k y := by
  funext j
  by_cases h : j = k
  · rw [h, cw_us, cw_us]
  · rw [cw_ud h, cw_ud h, cw_ud h]
def cw_en (b n : Nat) : Int32 := if n < b then nI n else -1
theorem cw_en_lt {b n : Nat} (h : n < b) : cw_en b n = nI n := if_pos h
theorem cw_en_ge {b n : Nat} (h : ¬ n < b) : cw_en b n = -1 := if_neg h
theorem cw_en_nn {b n : Nat} (hb : b < 2 ^ 31) : 0 ≤ cw_en b n ↔ n < b := by
  by_cases h : n < b
  · rw [cw_en_lt h]
    exact ⟨fun _ => h, fun _ => nI_pos' (by omega)⟩
  · rw [cw_en_ge h]
    exact ⟨fun z => absurd z (by decide), fun z => absurd z h⟩
theorem cw_en_ng {b n : Nat} (hb : b < 2 ^ 31) : cw_en b n < 0 ↔ ¬ n < b := by
  rw [← Int32.not_le, cw_en_nn hb]
theorem cw_en_eq {b n m : Nat} (hb : b < 2 ^ 31) (hm : m < b) : cw_en b n = nI m ↔ n = m := by
  by_cases h : n < b
  · rw [cw_en_lt h, nI_eq (by omega) (by omega)]
  · rw [cw_en_ge h]
    constructor
    · intro z
      have h0 : (0 : Int32) ≤ nI m := nI_pos' (by omega)
      rw [← z] at h0
      exact absurd h0 (by decide)
    · intro z
      exact absurd (z ▸ hm) h
def cw_E (b N : Nat) (a : Nat → Int32) (C : Nat → Nat) : Prop := ∀ e, e < N → a e = cw_en b (C e)
theorem cw_E_upd {b N : Nat} {a : Nat → Int32} {C : Nat → Nat} {k n : Nat} {x : Int32} (h : cw_E b N a C) (hx : x = cw_en b n) : cw_E b N (upd a k x) (cw_un C k n) := by
  intro e he
  by_cases z : e = k
  · rw [z, pk_us, cw_us]
    exact hx
  · rw [pk_un z, cw_ud z]
    exact h e he
theorem cw_E_same {b N : Nat} {a : Nat → Int32} {C : Nat → Nat} {k : Nat} {x : Int32} (h : cw_E b N a C) (hx : x = cw_en b (C k)) : cw_E b N (upd a k x) C := by
  intro e he
  by_cases z : e = k
  · rw [z, pk_us]
    exact hx
  · rw [pk_un z]
    exact h e he
/-! counts -/
def cw_cn (C : Nat → Nat) (x : Nat) : Nat → Nat
  | 0 => 0
  | N + 1 => cw_cn C x N + (if C N = x then 1 else 0)
theorem cw_cn_s (C : Nat → Nat) (x N : Nat) : cw_cn C x (N + 1) = cw_cn C x N + (if C N = x then 1 else 0) := rfl
theorem cw_cn_le (C : Nat → Nat) (x : Nat) : ∀ N, cw_cn C x N ≤ N
  | 0 => Nat.le_refl 0
  | N + 1 => by
    have := cw_cn_le C x N
    rw [cw_cn_s]
    split <;> omega
theorem cw_cn_0 (C : Nat → Nat) (x : Nat) : ∀ N, (cw_cn C x N = 0 ↔ ∀ e, e < N → C e ≠ x) := by
  intro N
  induction N with
  | zero => exact ⟨fun _ e he => absurd he (by omega), fun _ => rfl⟩
  | succ N ih =>
    rw [cw_cn_s]
    constructor
    · intro h e he
      by_cases z : C N = x
      · rw [if_pos z] at h
        omega
      · rw [if_neg z] at h
        by_cases q : e = N
        · rw [q]
          exact z
        · exact ih.mp (by omega) e (by omega)
    · intro h
      rw [if_neg (h N (by omega)), ih.mpr (fun e he => h e (by omega))]
theorem cw_cn_out {C : Nat → Nat} {e c x : Nat} : ∀ N, N ≤ e → cw_cn (cw_un C e c) x N = cw_cn C x N := by
  intro N
  induction N with
  | zero => intro _; rfl
  | succ N ih =>
    intro h
    rw [cw_cn_s, cw_cn_s, ih (by omega), cw_ud (by omega)]
theorem cw_cn_un {C : Nat → Nat} {e c x : Nat} : ∀ N, e < N → cw_cn (cw_un C e c) x N + (if C e = x then 1 else 0) = cw_cn C x N + (if c = x then 1 else 0) := by
  intro N
  induction N with
  | zero => intro h; omega
  | succ N ih =>
    intro h
    rw [cw_cn_s, cw_cn_s]
    by_cases q : e = N
    · rw [q, cw_us, cw_cn_out N (by omega)]
      omega
    · have := ih (by omega)
      rw [cw_ud (by omega : N ≠ e)]
      omega
theorem cw_cn_pos {C : Nat → Nat} {e x N : Nat} (he : e < N) (h : C e = x) : 0 < cw_cn C x N := by
  rcases Nat.eq_zero_or_pos (cw_cn C x N) with z | z
  · exact absurd h ((cw_cn_0 C x N).mp z e he)
  · exact z
theorem cw_cn_uq {C : Nat → Nat} {e x N : Nat} (he : e < N) (h : C e = x) (h1 : cw_cn C x N ≤ 1) : ∀ d, d < N → C d = x → d = e := by
  intro d hd hx
  have h2 := cw_cn_un (C := C) (e := e) (c := x + 1) (x := x) N he
  rw [if_pos h, if_neg (by omega)] at h2
  have h3 := (cw_cn_0 (cw_un C e (x + 1)) x N).mp (by omega) d hd
  by_cases q : d = e
  · exact q
  · rw [cw_ud q] at h3
    exact absurd hx h3
theorem cw_cn_one {C : Nat → Nat} {e x N : Nat} (he : e < N) (h : C e = x) (hu : ∀ d, d < N → C d = x → d = e) : cw_cn C x N = 1 := by
  have h2 := cw_cn_un (C := C) (e := e) (c := x + 1) (x := x) N he
  rw [if_pos h, if_neg (by omega)] at h2
  have h3 : cw_cn (cw_un C e (x + 1)) x N = 0 := by
    rw [cw_cn_0]
    intro d hd
    by_cases q : d = e
    · rw [q, cw_us]
      omega
    · rw [cw_ud q]
      exact fun z => q (hu d hd z)
  omega
theorem cw_cn_cg {C D : Nat → Nat} {x y : Nat} : ∀ N, (∀ e, e < N → (C e = x ↔ D e = y)) → cw_cn C x N = cw_cn D y N := by
  intro N
  induction N with
  | zero => intro _; rfl
  | succ N ih =>
    intro h
    rw [cw_cn_s, cw_cn_s, ih (fun e he => h e (by omega))]
    by_cases z : C N = x
    · rw [if_pos z, if_pos ((h N (by omega)).mp z)]
    · rw [if_neg z, if_neg (fun q => z ((h N (by omega)).mpr q))]
/-! the pigeonhole -/
theorem cw_php : ∀ (M N : Nat) (C : Nat → Nat), (∀ c, c < M → ∃ e, e < N ∧ C e = c) → (∃ e, e < N ∧ M ≤ C e) → M < N := by
  intro M
  induction M with
  | zero =>
    intro N C _ h
    obtain ⟨e, he, _⟩ := h
    omega
  | succ M ih =>
    intro N C h hx
    obtain ⟨a, ha, hc⟩ := h M (by omega)
    have key : ∀ P : Nat → Prop, ¬ P M → (∃ e, e < N ∧ P (C e)) → ∃ e, e < N - 1 ∧ P (cw_un C a (C (N - 1)) e) := by
      intro P hP he
      obtain ⟨e, he, hp⟩ := he
      have hne : e ≠ a := by
        intro z
        rw [z, hc] at hp
        exact hP hp
      by_cases q : e = N - 1
      · refine ⟨a, by omega, ?_⟩
        rw [cw_us, ← q]
        exact hp
      · refine ⟨e, by omega, ?_⟩
        rw [cw_ud hne]
        exact hp
    have := ih (N - 1) (cw_un C a (C (N - 1))) (fun c hc' => key (fun y => y = c) (by omega) (h c (by omega))) (by
      obtain ⟨e, he, hm⟩ := hx
      obtain ⟨d, hd, hq⟩ := key (fun y => M + 1 ≤ y) (by omega) ⟨e, he, hm⟩
      exact ⟨d, hd, by omega⟩)
    omega
theorem cw_free {C : Nat → Nat} {e : Nat} (he : e < 20) (h : ¬ C e < 20) : ∃ c, c < 20 ∧ cw_cn C c 20 = 0 := by
  apply Classical.byContradiction
  intro hn
  have := cw_php 20 20 C (fun c hc => by
    apply Classical.byContradiction
    intro hm
    exact hn ⟨c, hc, (cw_cn_0 C c 20).mpr (fun d hd hq => hm ⟨d, hd, hq⟩)⟩) ⟨e, he, by omega⟩
  omega
/-! sums by first occurrence: long values, and plain counts -/
def cw_tx (S : Nat → Nat) (z : Nat → Int64) : Nat → Int64
  | 0 => 0
  | e + 1 => cw_tx S z e + (if S e < 20 ∧ cw_cn S (S e) e = 0 then z (S e) else 0)
theorem cw_tx_s (S : Nat → Nat) (z : Nat → Int64) (e : Nat) : cw_tx S z (e + 1) = cw_tx S z e + (if S e < 20 ∧ cw_cn S (S e) e = 0 then z (S e) else 0) := rfl
def cw_ty (S : Nat → Nat) (z : Nat → Int64) (n : Nat) : Nat → Int64
  | 0 => 0
  | s + 1 => cw_ty S z n s + (if cw_cn S s n = 0 then 0 else z s)
theorem cw_ty_s (S : Nat → Nat) (z : Nat → Int64) (n s : Nat) : cw_ty S z n (s + 1) = cw_ty S z n s + (if cw_cn S s n = 0 then 0 else z s) := rfl
theorem cw_ty_0 (S : Nat → Nat) (z : Nat → Int64) : ∀ N, cw_ty S z 0 N = 0
  | 0 => rfl
  | N + 1 => by rw [cw_ty_s, cw_ty_0 S z N, if_pos (show cw_cn S N 0 = 0 from rfl), Int64.add_zero]
theorem cw_ty_n (S : Nat → Nat) (z : Nat → Int64) (n : Nat) : ∀ N, cw_ty S z (n + 1) N = cw_ty S z n N + (if S n < N ∧ cw_cn S (S n) n = 0 then z (S n) else 0) := by
  intro N
  induction N with
  | zero =>
    rw [if_neg (by omega)]
    rfl
  | succ N ih =>
    rw [cw_ty_s, cw_ty_s, ih, cw_cn_s]
    by_cases q : S n = N
    · rw [if_neg (by omega : ¬ (S n < N ∧ cw_cn S (S n) n = 0)), if_pos q, if_neg (by omega), q]
      by_cases r : cw_cn S N n = 0
      · rw [if_pos r, if_pos (And.intro (Nat.lt_succ_self N) r)]
      · rw [if_neg r, if_neg (fun y => r y.2), Int64.add_zero, Int64.add_zero]
    · rw [if_neg q, Nat.add_zero]
      by_cases r : S n < N ∧ cw_cn S (S n) n = 0
      · rw [if_pos r, if_pos (And.intro (Nat.lt_succ_of_lt r.1) r.2), Int64.add_assoc, Int64.add_assoc, Int64.add_comm (z (S n))]
      · rw [if_neg r, if_neg (by omega : ¬ (S n < N + 1 ∧ cw_cn S (S n) n = 0)), Int64.add_zero, Int64.add_zero]
theorem cw_txy (S : Nat → Nat) (z : Nat → Int64) : ∀ n, cw_tx S z n = cw_ty S z n 20 := by
  intro n
  induction n with
  | zero => exact (cw_ty_0 S z 20).symm
  | succ n ih => rw [cw_tx_s, cw_ty_n, ih]
def cw_nx (S : Nat → Nat) : Nat → Nat
  | 0 => 0
  | e + 1 => cw_nx S e + (if S e < 20 ∧ cw_cn S (S e) e = 0 then 1 else 0)
theorem cw_nx_s (S : Nat → Nat) (e : Nat) : cw_nx S (e + 1) = cw_nx S e + (if S e < 20 ∧ cw_cn S (S e) e = 0 then 1 else 0) := rfl
def cw_ny (S : Nat → Nat) (n : Nat) : Nat → Nat
  | 0 => 0
  | s + 1 => cw_ny S n s + (if cw_cn S s n = 0 then 0 else 1)
theorem cw_ny_s (S : Nat → Nat) (n s : Nat) : cw_ny S n (s + 1) = cw_ny S n s + (if cw_cn S s n = 0 then 0 else 1) := rfl
theorem cw_ny_0 (S : Nat → Nat) : ∀ N, cw_ny S 0 N = 0
  | 0 => rfl
  | N + 1 => by rw [cw_ny_s, cw_ny_0 S N, if_pos (show cw_cn S N 0 = 0 from rfl)]
theorem cw_ny_n (S : Nat → Nat) (n : Nat) : ∀ N, cw_ny S (n + 1) N = cw_ny S n N + (if S n < N ∧ cw_cn S (S n) n = 0 then 1 else 0) := by
  intro N
  induction N with
  | zero =>
    rw [if_neg (by omega)]
    rfl
  | succ N ih =>
    rw [cw_ny_s, cw_ny_s, ih, cw_cn_s]
    by_cases q : S n = N
    · rw [if_neg (by omega : ¬ (S n < N ∧ cw_cn S (S n) n = 0)), if_pos q, if_neg (by omega), q]
      by_cases r : cw_cn S N n = 0
      · rw [if_pos r, if_pos (And.intro (Nat.lt_succ_self N) r)]
      · rw [if_neg r, if_neg (fun y => r y.2)]
    · rw [if_neg q, Nat.add_zero]
      by_cases r : S n < N ∧ cw_cn S (S n) n = 0
      · rw [if_pos r, if_pos (And.intro (Nat.lt_succ_of_lt r.1) r.2)]
        omega
      · rw [if_neg r, if_neg (by omega : ¬ (S n < N + 1 ∧ cw_cn S (S n) n = 0))]
        omega
theorem cw_nxy (S : Nat → Nat) : ∀ n, cw_nx S n = cw_ny S n 20 := by
  intro n
  induction n with
  | zero => exact (cw_ny_0 S 20).symm
  | succ n ih => rw [cw_nx_s, cw_ny_n, ih]
theorem cw_nx_le (S : Nat → Nat) : ∀ n, cw_nx S n ≤ n
  | 0 => Nat.le_refl 0
  | n + 1 => by
    have := cw_nx_le S n
    rw [cw_nx_s]
    split <;> omega
theorem cw_ny_le (S : Nat → Nat) (m : Nat) : ∀ n, cw_ny S m n ≤ n
  | 0 => Nat.le_refl 0
  | n + 1 => by
    have := cw_ny_le S m n
    rw [cw_ny_s]
    split <;> omega
/-- four cells as longs, left to right -/
def cw_sm (g : Nat → Int32) : Nat → Int64
  | 0 => 0
  | i + 1 => cw_sm g i + (g i).toInt64
theorem cw_sm_s (g : Nat → Int32) (i : Nat) : cw_sm g (i + 1) = cw_sm g i + (g i).toInt64 := rfl
theorem cw_sm_cg {g k : Nat → Int32} : ∀ N, (∀ i, i < N → g i = k i) → cw_sm g N = cw_sm k N := by
  intro N
  induction N with
  | zero => intro _; rfl
  | succ N ih =>
    intro h
    rw [cw_sm_s, cw_sm_s, ih (fun i hi => h i (by omega)), h N (by omega)]
end
section
/-! the frame machine: what it shows of the contents V, and what each of its acts keeps -/
def cw_sv (sw sc : Nat → Int32) (c i : Nat) : Int32 := if sw c = 0 then 0 else sc (4 * c + i)
def cw_Fr (F : Nat) (V : Nat → Nat → Int32) (G H : Nat → Nat) (fo sw sc ho fr di : Nat → Int32) : Prop :=
  cw_E 6 20 fo G ∧ cw_E 20 6 ho H ∧
  (∀ c, c < 20 → G c < 6 → G c < F ∧ H (G c) = c) ∧
  (∀ f, f < F → H f < 20 → G (H f) = f) ∧
  (∀ c, c < 20 → ¬ G c < 6 → ∀ i, i < 4 → V c i = cw_sv sw sc c i) ∧
  (∀ c, c < 20 → G c < 6 → ∀ i, i < 4 → V c i = fr (4 * G c + i)) ∧
  (∀ c, c < 20 → G c < 6 → di (G c) = 0 → ∀ i, i < 4 → V c i = cw_sv sw sc c i)
/-- a content leaves its frame -/
theorem cw_Fr_out {F : Nat} {V V' : Nat → Nat → Int32} {G H : Nat → Nat} {fo sw sc ho fr di sw' sc' : Nat → Int32} {c f : Nat} (h : cw_Fr F V G H fo sw sc ho fr di) (hF : F ≤ 6) (hc : c < 20) (hf : f < F) (hG : G c = f)
    (hV : ∀ d, d < 20 → d ≠ c → ∀ i, i < 4 → V' d i = V d i) (hs : ∀ d, d < 20 → d ≠ c → ∀ i, i < 4 → cw_sv sw' sc' d i = cw_sv sw sc d i) (hc' : ∀ i, i < 4 → V' c i = cw_sv sw' sc' c i) :
    cw_Fr F V' (cw_un G c 6) (cw_un H f 20) (upd fo c (-1)) sw' sc' (upd ho f (-1)) fr di := by
  obtain ⟨h1, h2, h3, h4, h5, h6, h7⟩ := h
  have hg : ∀ d, d < 20 → d ≠ c → G d < 6 → G d ≠ f := by
    intro d hd hn hl hq
    have a := (h3 d hd hl).2
    have b := (h3 c hc (by omega)).2
    rw [hq] at a
    rw [hG] at b
    exact hn (a.symm.trans b)
  refine ⟨cw_E_upd h1 (cw_en_ge (by omega)).symm, cw_E_upd h2 (cw_en_ge (by omega)).symm, ?_, ?_, ?_, ?_, ?_⟩
  · intro d hd hl
    by_cases q : d = c
    · rw [q, cw_us] at hl
      omega
    · rw [cw_ud q] at hl ⊢
      rw [cw_ud (hg d hd q hl)]
      exact h3 d hd hl
  · intro g hg' hl
    by_cases q : g = f
    · rw [q, cw_us] at hl
      omega
    · rw [cw_ud q] at hl ⊢
      have a := h4 g hg' hl
      rw [cw_ud]
      · exact a
      · intro z
        rw [z, hG] at a
        exact q a.symm
  · intro d hd hl i hi
    by_cases q : d = c
    · rw [q]
      exact hc' i hi
    · rw [cw_ud q] at hl
      rw [hV d hd q i hi, hs d hd q i hi]
      exact h5 d hd hl i hi
  · intro d hd hl i hi
    by_cases q : d = c
    · rw [q, cw_us] at hl
      omega
    · rw [cw_ud q] at hl ⊢
      rw [hV d hd q i hi]
      exact h6 d hd hl i hi
  · intro d hd hl hz i hi
    by_cases q : d = c
    · rw [q, cw_us] at hl
      omega
    · rw [cw_ud q] at hl hz
      rw [hV d hd q i hi, hs d hd q i hi]
      exact h7 d hd hl hz i hi
/-- a content comes into an empty frame -/
theorem cw_Fr_in {F : Nat} {V : Nat → Nat → Int32} {G H : Nat → Nat} {fo sw sc ho fr di fr' : Nat → Int32} {c f : Nat} (h : cw_Fr F V G H fo sw sc ho fr di) (hF : F ≤ 6) (hc : c < 20) (hf : f < F) (hG : ¬ G c < 6) (hH : ¬ H f < 20)
    (hn : ∀ i, i < 4 → fr' (4 * f + i) = cw_sv sw sc c i) (ho' : ∀ j, (j < 4 * f ∨ 4 * f + 4 ≤ j) → fr' j = fr j) :
    cw_Fr F V (cw_un G c f) (cw_un H f c) (upd fo c (nI f)) sw sc (upd ho f (nI c)) fr' (upd di f 0) := by
  obtain ⟨h1, h2, h3, h4, h5, h6, h7⟩ := h
  have hg : ∀ d, d < 20 → G d < 6 → G d ≠ f := by
    intro d hd hl hq
    have a := (h3 d hd hl).2
    rw [hq] at a
    omega
  refine ⟨cw_E_upd h1 (cw_en_lt (by omega)).symm, cw_E_upd h2 (cw_en_lt hc).symm, ?_, ?_, ?_, ?_, ?_⟩
  · intro d hd hl
    by_cases q : d = c
    · rw [q, cw_us, cw_us]
      exact ⟨hf, rfl⟩
    · rw [cw_ud q] at hl ⊢
      rw [cw_ud (hg d hd hl)]
      exact h3 d hd hl
  · intro g hg' hl
    by_cases q : g = f
    · rw [q, cw_us, cw_us]
    · rw [cw_ud q] at hl ⊢
      have a := h4 g hg' hl
      rw [cw_ud]
      · exact a
      · intro z
        rw [z] at a
        omega
  · intro d hd hl i hi
    by_cases q : d = c
    · rw [q, cw_us] at hl
      omega
    · rw [cw_ud q] at hl
      exact h5 d hd hl i hi
  · intro d hd hl i hi
    by_cases q : d = c
    · rw [q, cw_us, hn i hi]
      exact h5 c hc hG i hi
    · rw [cw_ud q] at hl ⊢
      have := hg d hd hl
      rw [ho' _ (by omega)]
      exact h6 d hd hl i hi
  · intro d hd hl hz i hi
    by_cases q : d = c
    · rw [q]
      exact h5 c hc hG i hi
    · rw [cw_ud q] at hl hz
      rw [pk_un (hg d hd hl)] at hz
      exact h7 d hd hl hz i hi
/-- the cells of a content in a frame are written -/
theorem cw_Fr_wr {F : Nat} {V V' : Nat → Nat → Int32} {G H : Nat → Nat} {fo sw sc ho fr di fr' : Nat → Int32} {c : Nat} {b : Int32} (h : cw_Fr F V G H fo sw sc ho fr di) (hc : c < 20) (hG : G c < 6) (hb : ¬ b = 0)
    (hV : ∀ d, d < 20 → d ≠ c → ∀ i, i < 4 → V' d i = V d i) (hn : ∀ i, i < 4 → V' c i = fr' (4 * G c + i)) (ho' : ∀ j, (j < 4 * G c ∨ 4 * G c + 4 ≤ j) → fr' j = fr j) :
    cw_Fr F V' G H fo sw sc ho fr' (upd di (G c) b) := by
  obtain ⟨h1, h2, h3, h4, h5, h6, h7⟩ := h
  have hg : ∀ d, d < 20 → d ≠ c → G d < 6 → G d ≠ G c := by
    intro d hd hn hl hq
    have a := (h3 d hd hl).2
    have b := (h3 c hc hG).2
    rw [hq] at a
    exact hn (a.symm.trans b)
  refine ⟨h1, h2, h3, h4, ?_, ?_, ?_⟩
  · intro d hd hl i hi
    have q : d ≠ c := by
      intro z
      rw [z] at hl
      exact hl hG
    rw [hV d hd q i hi]
    exact h5 d hd hl i hi
  · intro d hd hl i hi
    by_cases q : d = c
    · rw [q]
      exact hn i hi
    · have := hg d hd q hl
      rw [hV d hd q i hi, ho' _ (by omega)]
      exact h6 d hd hl i hi
  · intro d hd hl hz i hi
    by_cases q : d = c
    · rw [q, pk_us] at hz
      exact absurd hz hb
    · rw [pk_un (hg d hd q hl)] at hz
      rw [hV d hd q i hi]
      exact h7 d hd hl hz i hi
/-- a content without a frame begins anew, all 0 -/
theorem cw_Fr_new {F : Nat} {V V' : Nat → Nat → Int32} {G H : Nat → Nat} {fo sw sc ho fr di : Nat → Int32} {c : Nat} (h : cw_Fr F V G H fo sw sc ho fr di) (hG : ¬ G c < 6)
    (hV : ∀ d, d < 20 → d ≠ c → ∀ i, i < 4 → V' d i = V d i) (hn : ∀ i, i < 4 → V' c i = 0) :
    cw_Fr F V' G H (upd fo c (-1)) (upd sw c 0) sc ho fr di := by
  obtain ⟨h1, h2, h3, h4, h5, h6, h7⟩ := h
  have hs : ∀ d, d ≠ c → ∀ i, cw_sv (upd sw c 0) sc d i = cw_sv sw sc d i := by
    intro d q i
    show (if upd sw c 0 d = 0 then 0 else sc (4 * d + i)) = _
    rw [pk_un q]
    rfl
  refine ⟨cw_E_same h1 (cw_en_ge hG).symm, h2, h3, h4, ?_, ?_, ?_⟩
  · intro d hd hl i hi
    by_cases q : d = c
    · rw [q, hn i hi]
      show 0 = (if upd sw c 0 c = 0 then 0 else sc (4 * c + i))
      rw [if_pos pk_us]
    · rw [hV d hd q i hi, hs d q]
      exact h5 d hd hl i hi
  · intro d hd hl i hi
    have q : d ≠ c := by
      intro z
      rw [z] at hl
      exact hG hl
    rw [hV d hd q i hi]
    exact h6 d hd hl i hi
  · intro d hd hl hz i hi
    have q : d ≠ c := by
      intro z
      rw [z] at hl
      exact hG hl
    rw [hV d hd q i hi, hs d q]
    exact h7 d hd hl hz i hi
/-! small stores -/
theorem cw_b1 : vp_nar .byte (-1) = -1 := by decide +kernel
theorem cw_z0 : vp_nar .boolean 0 = 0 := by decide +kernel
theorem cw_z1 : vp_nar .boolean 1 = 1 := by decide +kernel
theorem cw_o1 : vp_nar .byte 1 = 1 := by decide +kernel
theorem cw_by : ∀ n, n < 100 → vp_nar .byte (nI n) = nI n ∧ vp_nar .byte (nI n).toInt8.toInt32 = nI n := by decide +kernel
theorem cw_m1 : (-1 : Int32) ≠ 0 := by decide
theorem cw_x4 (f i : Nat) : 4 * nI f + nI i = nI (4 * f + i) := by
  show nI 4 * nI f + nI i = _
  rw [pk_mul, nI_add]
theorem cw_x5 (p k : Nat) : 5 * nI p + nI k = nI (5 * p + k) := by
  show nI 5 * nI p + nI k = _
  rw [pk_mul, nI_add]
end
section
/-! the walks of pageOut, freeFrame, bringIn -/
section
variable {fc hd : Int32} {al sho shr us fo sw sc ho fr tc di : Nat → Int32} {F : Nat} {V : Nat → Nat → Int32} {G H : Nat → Nat}
theorem cw_po56 {post : SX → Prop} {c f : Nat} (hc : c < 20) (hf : f < 6) (K : post (fc, hd, al, sho, shr, us, upd fo c (-1), sw, sc, upd ho f (-1), fr, tc, di)) :
    wX_pageOut_56 post (nI f) (nI c) fc hd al sho shr us fo sw sc ho fr tc di := by
  refine ⟨vp_in_nI hc (by decide), fun a ea => ⟨vp_in_nI hf (by decide), fun b eb => ?_⟩⟩
  rw [nI_clamp (by omega), cw_b1] at ea eb
  subst ea eb
  exact K
theorem cw_po18 {post : SX → Prop} {c f : Nat} (hc : c < 20) (hf : f < 6) : ∀ (n i : Nat) (sc : Nat → Int32), i ≤ 4 → 4 - i < n →
    (∀ sc' : Nat → Int32, (∀ k, i ≤ k → k < 4 → sc' (4 * c + k) = fr (4 * f + k)) → (∀ j, (j < 4 * c + i ∨ 4 * c + 4 ≤ j) → sc' j = sc j) → wX_pageOut_56 post (nI f) (nI c) fc hd al sho shr us fo (upd sw c 1) sc' ho fr tc di) →
    wX_pageOut_18 post (nI f) (nI c) fc hd n (nI i) al sho shr us fo sw sc ho fr tc di := by
  intro n
  induction n with
  | zero => intro i sc _ h; omega
  | succ n ih =>
    intro i sc hi hn K
    refine pk_le 4 i (fun hle => ⟨vp_in_nI hc (by decide), fun a ea => ?_⟩) (fun hlt => ?_)
    · rw [nI_clamp (by omega), cw_z1] at ea
      subst ea
      exact K sc (fun k h1 h2 => by omega) (fun j _ => rfl)
    · rw [cw_x4, cw_x4]
      refine ⟨vp_in_nI (by omega) (by decide), vp_in_nI (by omega) (by decide), fun a ea x ex => ?_⟩
      rw [nI_clamp (by omega), nI_clamp (by omega)] at ea
      rw [nI_1] at ex
      subst ea ex
      refine ih (i + 1) _ (by omega) (by omega) (fun sc' h1 h2 => K sc' (fun k a b => ?_) (fun j hj => ?_))
      · by_cases q : k = i
        · rw [q, h2 (4 * c + i) (by omega), pk_us]
        · exact h1 k (by omega) b
      · rw [h2 j (by omega), pk_un (by omega)]
theorem cw_po {post : SX → Prop} {c f : Nat} (hFr : cw_Fr F V G H fo sw sc ho fr di) (hF : F ≤ 6) (hf : f < F) (hc : c < 20) (hG : G c = f) (hH : H f = c)
    (K : ∀ sw' sc' : Nat → Int32, cw_Fr F V (cw_un G c 6) (cw_un H f 20) (upd fo c (-1)) sw' sc' (upd ho f (-1)) fr di → post (fc, hd, al, sho, shr, us, upd fo c (-1), sw', sc', upd ho f (-1), fr, tc, di)) :
    wpX_pageOut post (fc, hd, al, sho, shr, us, fo, sw, sc, ho, fr, tc, di) (nI f) := by
  have e1 : ho f = nI c := by
    rw [hFr.2.1 f (by omega), hH]
    exact cw_en_lt hc
  have hG6 : G c < 6 := by omega
  unfold wpX_pageOut
  dsimp only
  rw [nI_clamp (by omega), e1]
  refine ⟨vp_in_nI (by omega) (by decide), fun x ex => ⟨vp_in_nI (by omega) (by decide), br_c (fun hd0 => ?_) (fun hd1 => ⟨5, ?_⟩)⟩⟩
  · subst ex
    refine cw_po56 hc (by omega) (K sw sc (cw_Fr_out hFr hF hc hf hG (fun _ _ _ _ _ => rfl) (fun _ _ _ _ _ => rfl) ?_))
    intro i hi
    exact hFr.2.2.2.2.2.2 c hc hG6 (by rw [hG]; exact hd0) i hi
  · subst ex
    refine cw_po18 hc (by omega) 5 0 sc (by omega) (by omega) (fun sc' h1 h2 => cw_po56 hc (by omega) (K _ _ (cw_Fr_out hFr hF hc hf hG (fun _ _ _ _ _ => rfl) ?_ ?_)))
    · intro d hd q i hi
      unfold cw_sv
      rw [pk_un q, h2 (4 * d + i) (by omega)]
    · intro i hi
      unfold cw_sv
      rw [pk_us, if_neg (by decide), h1 i (by omega) hi, hFr.2.2.2.2.2.1 c hc hG6 i hi, hG]
theorem cw_ff92 {post : Int32 → SX → Prop} {h : Nat} (hFr : cw_Fr F V G H fo sw sc ho fr di) (hF : F ≤ 6) (hh : h < F) (hfull : ∀ f, f < F → H f < 20)
    (K : ∀ (h' : Nat) (G' H' : Nat → Nat) (fo' sw' sc' ho' : Nat → Int32) (f : Nat), h' < F → cw_Fr F V G' H' fo' sw' sc' ho' fr di → f < F → ¬ H' f < 20 → (∀ c, ¬ G c < 6 → ¬ G' c < 6) → post (nI f) (nI F, nI h', al, sho, shr, us, fo', sw', sc', ho', fr, tc, di)) :
    wX_freeFrame_92 post (nI F) (nI h) al sho shr us fo sw sc ho fr tc di := by
  have P : ∀ h', h' < F → wX_freeFrame_121 post (nI h) (nI h') (nI F) (nI h) al sho shr us fo sw sc ho fr tc di := by
    intro h' hh'
    unfold wX_freeFrame_121
    refine cw_po hFr hF hh (hfull h hh) (hFr.2.2.2.1 h hh (hfull h hh)) rfl (fun sw' sc' q => ?_)
    refine K h' _ _ _ _ _ _ h hh' q hh (by rw [cw_us]; omega) (fun c hc => ?_)
    by_cases z : c = H h
    · rw [z, cw_us]
      omega
    · rw [cw_ud z]
      exact hc
  unfold wX_freeFrame_92
  rw [nI_1]
  exact pk_le F (h + 1) (fun _ => P 0 (by omega)) (fun hl => P (h + 1) hl)
theorem cw_ff29 {post : Int32 → SX → Prop} (hF : F ≤ 6) : ∀ (n s h : Nat) (tc : Nat → Int32), s ≤ F → F - s < n → h < F →
    (∀ (h' : Nat) (tc' : Nat → Int32), h' < F → wX_freeFrame_92 post (nI F) (nI h') al sho shr us fo sw sc ho fr tc' di) →
    wX_freeFrame_29 post (nI F) n (nI s) (nI h) al sho shr us fo sw sc ho fr tc di := by
  intro n
  induction n with
  | zero => intro s h tc _ hn; omega
  | succ n ih =>
    intro s h tc hs hn hh K
    refine pk_le F s (fun hle => K h tc hh) (fun hlt => ⟨vp_in_nI (by omega) (by decide), br_c (fun _ => K h tc hh) (fun _ => ⟨vp_in_nI (by omega) (by decide), fun a ea => ?_⟩)⟩)
    rw [nI_1]
    refine pk_le F (h + 1) (fun _ x ex => ?_) (fun hl y ey x ex => ?_)
    · rw [nI_1] at ex
      subst ex
      exact ih (s + 1) 0 a (by omega) (by omega) (by omega) K
    · rw [nI_1] at ex
      subst ex ey
      exact ih (s + 1) (h + 1) a (by omega) (by omega) hl K
theorem cw_ff2 {post : Int32 → SX → Prop} (hho : cw_E 20 6 ho H) (hF : F ≤ 6) (K1 : ∀ f, f < F → ¬ H f < 20 → post (nI f) (nI F, hd, al, sho, shr, us, fo, sw, sc, ho, fr, tc, di))
    (K2 : (∀ f, f < F → H f < 20) → ∃ n29 : Nat, wX_freeFrame_29 post (nI F) n29 0 hd al sho shr us fo sw sc ho fr tc di) :
    ∀ n f : Nat, f ≤ F → F - f < n → (∀ g, g < f → H g < 20) → wX_freeFrame_2 post (nI F) hd al sho shr us fo sw sc ho fr tc di n (nI f) := by
  intro n
  induction n with
  | zero => intro f _ hn; omega
  | succ n ih =>
    intro f hf hn hg
    refine pk_le F f (fun hle => K2 (fun g hg' => hg g (by omega))) (fun hlt => ⟨vp_in_nI (by omega) (by decide), ?_⟩)
    rw [nI_clamp (by omega), hho f (by omega)]
    refine br_c (fun h0 x ex => ?_) (fun h0 => K1 f hlt (fun z => h0 ((cw_en_nn (by decide)).mpr z)))
    rw [nI_1] at ex
    subst ex
    refine ih (f + 1) (by omega) (by omega) (fun g hg' => ?_)
    by_cases q : g = f
    · rw [q]
      exact (cw_en_nn (by decide)).mp h0
    · exact hg g (by omega)
theorem cw_ff {post : Int32 → SX → Prop} {h : Nat} (hFr : cw_Fr F V G H fo sw sc ho fr di) (hF : F ≤ 6) (hh : h < F)
    (K : ∀ (h' : Nat) (G' H' : Nat → Nat) (fo' sw' sc' ho' tc' : Nat → Int32) (f : Nat), h' < F → cw_Fr F V G' H' fo' sw' sc' ho' fr di → f < F → ¬ H' f < 20 → (∀ c, ¬ G c < 6 → ¬ G' c < 6) → post (nI f) (nI F, nI h', al, sho, shr, us, fo', sw', sc', ho', fr, tc', di)) :
    wpX_freeFrame post (nI F, nI h, al, sho, shr, us, fo, sw, sc, ho, fr, tc, di) := by
  unfold wpX_freeFrame
  dsimp only
  refine ⟨F + 1, cw_ff2 hFr.2.1 hF (fun f hf hH => K h G H fo sw sc ho tc f hh hFr hf hH (fun _ z => z)) (fun hfull => ⟨F + 1, ?_⟩) (F + 1) 0 (by omega) (by omega) (fun g hg => absurd hg (by omega))⟩
  exact cw_ff29 hF (F + 1) 0 h tc (by omega) (by omega) hh (fun h' tc' hh' => cw_ff92 hFr hF hh' hfull (fun h2 G' H' fo' sw' sc' ho' f a b c d e => K h2 G' H' fo' sw' sc' ho' tc' f a b c d e))
theorem cw_bi65 {post : Int32 → SX → Prop} {c f : Nat} (hc : c < 20) (hf : f < 6) : ∀ (n i : Nat) (fr : Nat → Int32), i ≤ 4 → 4 - i < n →
    (∀ fr' : Nat → Int32, (∀ k, i ≤ k → k < 4 → fr' (4 * f + k) = cw_sv sw sc c k) → (∀ j, (j < 4 * f + i ∨ 4 * f + 4 ≤ j) → fr' j = fr j) → post (nI f) (fc, hd, al, sho, shr, us, fo, sw, sc, ho, fr', tc, di)) →
    wX_bringIn_65 post (nI c) (nI f) fc hd n (nI i) al sho shr us fo sw sc ho fr tc di := by
  intro n
  induction n with
  | zero => intro i fr _ h; omega
  | succ n ih =>
    intro i fr hi hn K
    refine pk_le 4 i (fun hle => K fr (fun k h1 h2 => by omega) (fun j _ => rfl)) (fun hlt => ?_)
    have S : ∀ x : Int32, x = cw_sv sw sc c i → wX_bringIn_65 post (nI c) (nI f) fc hd n (nI (i + 1)) al sho shr us fo sw sc ho (upd fr (4 * f + i) x) tc di := by
      intro x hx
      refine ih (i + 1) _ (by omega) (by omega) (fun fr' h1 h2 => K fr' (fun k a b => ?_) (fun j hj => ?_))
      · by_cases q : k = i
        · rw [q, h2 (4 * f + i) (by omega), pk_us]
          exact hx
        · exact h1 k (by omega) b
      · rw [h2 j (by omega), pk_un (by omega)]
    rw [cw_x4, cw_x4]
    refine ⟨vp_in_nI (by omega) (by decide), br_c (fun h0 => ⟨vp_in_nI (by omega) (by decide), fun a ea x ex => ?_⟩) (fun h0 => ⟨vp_in_nI (by omega) (by decide), vp_in_nI (by omega) (by decide), fun a ea x ex => ?_⟩)⟩
    · rw [nI_clamp (by omega)] at ea h0
      rw [nI_1] at ex
      subst ea ex
      exact S 0 (by unfold cw_sv; rw [if_pos h0])
    · rw [nI_clamp (by omega)] at ea h0
      rw [nI_clamp (by omega)] at ea
      rw [nI_1] at ex
      subst ea ex
      exact S _ (by unfold cw_sv; rw [if_neg h0])
/-- bringIn: the content is in a frame then, and nothing else is to be seen -/
theorem cw_bi {post : Int32 → SX → Prop} {h c : Nat} (hFr : cw_Fr F V G H fo sw sc ho fr di) (hF : F ≤ 6) (hh : h < F) (hc : c < 20)
    (K : ∀ (h' : Nat) (G' H' : Nat → Nat) (fo' sw' sc' ho' fr' tc' di' : Nat → Int32), h' < F → cw_Fr F V G' H' fo' sw' sc' ho' fr' di' → G' c < 6 → (∀ d, d ≠ c → ¬ G d < 6 → ¬ G' d < 6) → post (nI (G' c)) (nI F, nI h', al, sho, shr, us, fo', sw', sc', ho', fr', tc', di')) :
    wpX_bringIn post (nI F, nI h, al, sho, shr, us, fo, sw, sc, ho, fr, tc, di) (nI c) := by
  unfold wpX_bringIn
  dsimp only
  rw [nI_clamp (by omega), hFr.1 c hc]
  refine ⟨vp_in_nI hc (by decide), br_c (fun h0 => ?_) (fun h0 => ?_)⟩
  · have hG := (cw_en_ng (by decide)).mp h0
    refine cw_ff hFr hF hh (fun h' G' H' fo' sw' sc' ho' tc' f hh' hFr' hf hH' hk => ?_)
    dsimp only
    refine ⟨vp_in_nI (by omega) (by decide), fun a ea => ⟨vp_in_nI hc (by decide), fun b eb => ⟨vp_in_nI (by omega) (by decide), fun d ed => ⟨vp_in_nI (by omega) (by decide), fun e ee => ⟨5, ?_⟩⟩⟩⟩⟩
    rw [nI_clamp (by omega), (cw_by c (by omega)).2] at ea
    rw [(cw_by f (by omega)).2] at eb
    rw [nI_clamp (by omega), cw_z0] at ee
    subst ea eb ee
    refine cw_bi65 hc (by omega) 5 0 fr (by omega) (by omega) (fun fr' h1 h2 => ?_)
    have q := cw_Fr_in hFr' hF hc hf (hk c hG) hH' (fun i hi => h1 i (by omega) hi) (fun j hj => h2 j (by omega))
    have r := K h' _ _ _ _ _ _ _ d _ hh' q (by rw [cw_us]; omega) (fun d hd hg => by rw [cw_ud hd]; exact hk d hg)
    rw [cw_us] at r
    exact r
  · have hG : G c < 6 := Classical.byContradiction (fun z => h0 ((cw_en_ng (by decide)).mpr z))
    rw [cw_en_lt hG]
    exact ⟨vp_in_nI hc (by decide), vp_in_nI hG (by decide), fun a ea => ⟨vp_in_nI hc (by decide), K h G H fo sw sc ho fr a di hh hFr hG (fun _ _ z => z)⟩⟩
end
end
section
/-! contents: users are counts; the walks of newContent, release, part, write's end, read's end, sumOf -/
def cw_U (C G : Nat → Nat) (us : Nat → Int32) : Prop := ∀ c, c < 20 → us c = nI (cw_cn C c 20) ∧ (cw_cn C c 20 = 0 → ¬ G c < 6)
theorem cw_U_keep {C G G' : Nat → Nat} {us : Nat → Int32} {c : Nat} (h : cw_U C G us) (hc : 0 < cw_cn C c 20) (hG : ∀ d, d ≠ c → ¬ G d < 6 → ¬ G' d < 6) : cw_U C G' us := by
  intro d hd
  refine ⟨(h d hd).1, fun z => ?_⟩
  have q : d ≠ c := by
    intro q
    rw [q] at z
    omega
  exact hG d q ((h d hd).2 z)
theorem cw_U_inc {C G : Nat → Nat} {us : Nat → Int32} {e c : Nat} {x : Int32} (h : cw_U C G us) (he : e < 20) (hC : ¬ C e < 20) (hx : x = nI (cw_cn C c 20 + 1)) : cw_U (cw_un C e c) G (upd us c x) := by
  intro d hd
  have h2 := cw_cn_un (C := C) (e := e) (c := c) (x := d) 20 he
  rw [if_neg (by omega : ¬ C e = d)] at h2
  by_cases q : d = c
  · rw [if_pos q.symm] at h2
    have h3 : cw_cn (cw_un C e c) d 20 = cw_cn C d 20 + 1 := by omega
    rw [h3, q, pk_us]
    exact ⟨hx, fun z => by omega⟩
  · rw [if_neg (fun z => q z.symm)] at h2
    have h3 : cw_cn (cw_un C e c) d 20 = cw_cn C d 20 := by omega
    rw [h3, pk_un q]
    exact h d hd
theorem cw_U_dec {C G G' : Nat → Nat} {us : Nat → Int32} {e c m : Nat} (h : cw_U C G us) (he : e < 20) (hC : C e = c) (hm : cw_cn C c 20 = m + 1) (hG : ∀ d, d ≠ c → ¬ G d < 6 → ¬ G' d < 6) (h0 : m = 0 → ¬ G' c < 6) :
    cw_U (cw_un C e 20) G' (upd us c (nI m)) := by
  intro d hd
  have h2 := cw_cn_un (C := C) (e := e) (c := 20) (x := d) 20 he
  rw [if_neg (by omega : ¬ 20 = d)] at h2
  by_cases q : d = c
  · rw [if_pos (hC.trans q.symm)] at h2
    have h3 : cw_cn (cw_un C e 20) d 20 = m := by
      rw [q] at h2 ⊢
      omega
    rw [h3, q, pk_us]
    exact ⟨rfl, h0⟩
  · rw [if_neg (fun z => q (z.symm.trans hC))] at h2
    have h3 : cw_cn (cw_un C e 20) d 20 = cw_cn C d 20 := by omega
    rw [h3, pk_un q]
    exact ⟨(h d hd).1, fun z => hG d q ((h d hd).2 z)⟩
/-- the whole of the component's state but alive, isShared, touched -/
def cw_X (C : Nat → Nat) (V : Nat → Nat → Int32) (fc hd : Int32) (sho us fo sw sc ho fr di : Nat → Int32) : Prop :=
  ∃ (F h : Nat) (G H : Nat → Nat), F ≤ 6 ∧ h < F ∧ fc = nI F ∧ hd = nI h ∧ cw_E 20 20 sho C ∧ cw_U C G us ∧ cw_Fr F V G H fo sw sc ho fr di
theorem cw_y0 (f : Nat) : 4 * nI f = nI (4 * f) := by
  show nI 4 * nI f = _
  rw [pk_mul]
theorem cw_y1 (f : Nat) : nI f + 1 = nI (f + 1) := nI_1 f
theorem cw_y2 (f : Nat) : nI f + 2 = nI (f + 2) := nI_add f 2
theorem cw_y3 (f : Nat) : nI f + 3 = nI (f + 3) := nI_add f 3
section
variable {fc hd : Int32} {al sho shr us fo sw sc ho fr tc di : Nat → Int32} {F : Nat} {V : Nat → Nat → Int32} {C G H : Nat → Nat}
theorem cw_nc23 {post : Int32 → SX → Prop} {c : Nat} (hc : c < 20) (K : post (nI c) (fc, hd, al, sho, shr, upd us c 1, upd fo c (-1), upd sw c 0, sc, ho, fr, tc, di)) :
    wX_newContent_23 post (nI c) fc hd al sho shr us fo sw sc ho fr tc di := by
  refine ⟨vp_in_nI hc (by decide), fun a ea => ⟨vp_in_nI hc (by decide), fun b eb => ⟨vp_in_nI hc (by decide), fun d ed => ?_⟩⟩⟩
  rw [nI_clamp (by omega), cw_o1] at ea
  rw [nI_clamp (by omega), cw_b1] at eb
  rw [nI_clamp (by omega), cw_z0] at ed
  subst ea eb ed
  exact K
theorem cw_nc2 {post : Int32 → SX → Prop} {c : Nat} (hU : cw_U C G us) (hc : c < 20) (h0 : cw_cn C c 20 = 0) (hl : ∀ d, d < c → ¬ cw_cn C d 20 = 0)
    (K : post (nI c) (fc, hd, al, sho, shr, upd us c 1, upd fo c (-1), upd sw c 0, sc, ho, fr, tc, di)) :
    ∀ n x : Nat, x ≤ c → c - x < n → wX_newContent_2 post fc hd al sho shr us fo sw sc ho fr tc di n (nI x) := by
  intro n
  induction n with
  | zero => intro x _ h; omega
  | succ n ih =>
    intro x hx hn
    by_cases q : x = c
    · rw [q]
      refine pk_le 19 c (fun _ => cw_nc23 hc K) (fun hlt => ⟨vp_in_nI hc (by decide), ?_⟩)
      rw [nI_clamp (by omega), (hU c hc).1, h0]
      exact br_t rfl (cw_nc23 hc K)
    · refine pk_le 19 x (fun hle => absurd hle (by omega)) (fun hlt => ⟨vp_in_nI (by omega) (by decide), ?_⟩)
      have hp := hl x (by omega)
      have hb := cw_cn_le C x 20
      rw [nI_clamp (by omega), (hU x (by omega)).1]
      refine br_f (nI_ne0 (by omega) (by omega)) (fun y ey => ?_)
      rw [nI_1] at ey
      subst ey
      exact ih (x + 1) (by omega) (by omega)
theorem cw_nc {e : Nat} (hU : cw_U C G us) (he : e < 20) (hC : ¬ C e < 20) : ∃ c, c < 20 ∧ cw_cn C c 20 = 0 ∧ ∀ post : Int32 → SX → Prop,
    post (nI c) (fc, hd, al, sho, shr, upd us c 1, upd fo c (-1), upd sw c 0, sc, ho, fr, tc, di) → wpX_newContent post (fc, hd, al, sho, shr, us, fo, sw, sc, ho, fr, tc, di) := by
  obtain ⟨c, ⟨hc, h0⟩, hl⟩ := pk_least (fun c => c < 20 ∧ cw_cn C c 20 = 0) (cw_free he hC)
  refine ⟨c, hc, h0, fun post K => ?_⟩
  unfold wpX_newContent
  dsimp only
  exact ⟨c + 1, cw_nc2 hU hc h0 (fun d hd z => hl d hd ⟨by omega, z⟩) K (c + 1) 0 (by omega) (by omega)⟩
/-- release: the page shows nothing; contents that are still shown stay -/
theorem cw_rl {post : SX → Prop} {e c : Nat} (hX : cw_X C V fc hd sho us fo sw sc ho fr di) (he : e < 20) (hC : C e = c) (hc : c < 20)
    (K : ∀ (V' : Nat → Nat → Int32) (us' fo' ho' : Nat → Int32), cw_X (cw_un C e 20) V' fc hd (upd sho e (-1)) us' fo' sw sc ho' fr di → (∀ d, d < 20 → 0 < cw_cn (cw_un C e 20) d 20 → ∀ i, i < 4 → V' d i = V d i) →
      post (fc, hd, al, upd sho e (-1), shr, us', fo', sw, sc, ho', fr, tc, di)) :
    wpX_release post (fc, hd, al, sho, shr, us, fo, sw, sc, ho, fr, tc, di) (nI e) := by
  obtain ⟨F, h, G, H, hF, hh, rfl, rfl, hE, hU, hFr⟩ := hX
  obtain ⟨m, hm⟩ : ∃ m, cw_cn C c 20 = m + 1 := ⟨cw_cn C c 20 - 1, by have := cw_cn_pos he hC; omega⟩
  have hb := cw_cn_le C c 20
  have es : sho e = nI c := by rw [hE e he, hC]; exact cw_en_lt hc
  have eu : us c = nI (m + 1) := by rw [(hU c hc).1, hm]
  have hE' : cw_E 20 20 (upd sho e (-1)) (cw_un C e 20) := cw_E_upd hE (cw_en_ge (by omega)).symm
  unfold wpX_release
  dsimp only
  rw [nI_clamp (by omega), es]
  refine ⟨vp_in_nI he (by decide), fun x ex => ⟨vp_in_nI he (by decide), fun a ea => ?_⟩⟩
  rw [cw_b1] at ea
  subst ea ex
  rw [nI_clamp (by omega), eu, nI_pred, (cw_by m (by omega)).2]
  refine ⟨vp_in_nI hc (by decide), vp_in_nI hc (by decide), fun b eb => ⟨vp_in_nI hc (by decide), ?_⟩⟩
  subst eb
  rw [pk_us, hFr.1 c hc]
  refine pk_lt 0 m (fun hp => ?_) (fun hz => ⟨vp_in_nI hc (by decide), br_c (fun h0 => ?_) (fun h0 => ?_)⟩)
  · exact K V _ _ _ ⟨F, h, G, H, hF, hh, rfl, rfl, hE', cw_U_dec hU he hC hm (fun _ _ z => z) (fun z => by omega), hFr⟩ (fun _ _ _ _ _ => rfl)
  · have hG : G c < 6 := (cw_en_nn (by decide)).mp h0
    rw [cw_en_lt hG]
    refine ⟨vp_in_nI hc (by decide), vp_in_nI hG (by decide), fun a ea => ⟨vp_in_nI hc (by decide), fun b eb => ?_⟩⟩
    rw [nI_clamp (by omega), cw_b1] at ea
    rw [cw_b1] at eb
    subst ea eb
    have hd : ∀ d, d ≠ c → ∀ i, (fun d i => if d = c then cw_sv sw sc c i else V d i) d i = V d i := fun d q i => if_neg q
    refine K (fun d i => if d = c then cw_sv sw sc c i else V d i) _ _ _ ⟨F, h, cw_un G c 6, cw_un H (G c) 20, hF, hh, rfl, rfl, hE', cw_U_dec hU he hC hm (fun d q z => by rw [cw_ud q]; exact z) (fun _ => by rw [cw_us]; omega),
      cw_Fr_out hFr hF hc (hFr.2.2.1 c hc hG).1 rfl (fun d _ q i _ => hd d q i) (fun _ _ _ _ _ => rfl) (fun i _ => if_pos rfl)⟩ ?_
    intro d hd' hp i hi
    have q : d ≠ c := by
      intro q
      have h2 := cw_cn_un (C := C) (e := e) (c := 20) (x := d) 20 he
      rw [if_neg (by omega : ¬ 20 = d), if_pos (hC.trans q.symm)] at h2
      rw [q] at h2 hp
      omega
    exact hd d q i
  · have hG : ¬ G c < 6 := fun z => h0 ((cw_en_nn (by decide)).mpr z)
    exact K V _ _ _ ⟨F, h, G, H, hF, hh, rfl, rfl, hE', cw_U_dec hU he hC hm (fun _ _ z => z) (fun _ => hG), hFr⟩ (fun _ _ _ _ _ => rfl)
/-- a new content, shown by a page that showed nothing -/
theorem cw_mp {e : Nat} (hX : cw_X C V fc hd sho us fo sw sc ho fr di) (he : e < 20) (hC : ¬ C e < 20) : ∃ c, c < 20 ∧ (∀ d, d < 20 → C d ≠ c) ∧ ∀ post : Int32 → SX → Prop,
    (∀ (us' fo' sw' : Nat → Int32) (V' : Nat → Nat → Int32), cw_X (cw_un C e c) V' fc hd (upd sho e (nI c)) us' fo' sw' sc ho fr di → (∀ d, d ≠ c → ∀ i, V' d i = V d i) → (∀ i, V' c i = 0) →
      post (nI c) (fc, hd, al, sho, shr, us', fo', sw', sc, ho, fr, tc, di)) → wpX_newContent post (fc, hd, al, sho, shr, us, fo, sw, sc, ho, fr, tc, di) := by
  obtain ⟨F, h, G, H, hF, hh, rfl, rfl, hE, hU, hFr⟩ := hX
  obtain ⟨c, hc, h0, W⟩ := cw_nc (fc := nI F) (hd := nI h) (al := al) (sho := sho) (shr := shr) (fo := fo) (sw := sw) (sc := sc) (ho := ho) (fr := fr) (tc := tc) (di := di) hU he hC
  refine ⟨c, hc, (cw_cn_0 C c 20).mp h0, fun post K => W post (K _ _ _ (fun d i => if d = c then 0 else V d i) ⟨F, h, G, H, hF, hh, rfl, rfl, cw_E_upd hE (cw_en_lt hc).symm, cw_U_inc hU he hC (by rw [h0]; rfl), ?_⟩ (fun d q i => if_neg q) (fun i => if_pos rfl))⟩
  exact cw_Fr_new hFr ((hU c hc).2 h0) (fun d _ q i _ => if_neg q) (fun i _ => if_pos rfl)
/-- bringIn over the whole state -/
theorem cw_br {post : Int32 → SX → Prop} {e c : Nat} (hX : cw_X C V fc hd sho us fo sw sc ho fr di) (he : e < 20) (hC : C e = c) (hc : c < 20)
    (K : ∀ (f F h : Nat) (G H : Nat → Nat) (fo' sw' sc' ho' fr' tc' di' : Nat → Int32), F ≤ 6 → h < F → fc = nI F → f < 6 → G c = f → cw_U C G us → cw_Fr F V G H fo' sw' sc' ho' fr' di' → post (nI f) (fc, nI h, al, sho, shr, us, fo', sw', sc', ho', fr', tc', di')) :
    wpX_bringIn post (fc, hd, al, sho, shr, us, fo, sw, sc, ho, fr, tc, di) (nI c) := by
  obtain ⟨F, h, G, H, hF, hh, rfl, rfl, hE, hU, hFr⟩ := hX
  exact cw_bi hFr hF hh hc (fun h' G' H' fo' sw' sc' ho' fr' tc' di' hh' hFr' hG hk => K (G' c) F h' G' H' fo' sw' sc' ho' fr' tc' di' hF hh' rfl hG rfl (cw_U_keep hU (cw_cn_pos he hC) hk) hFr')
end
end
section
/-! the walks of part, the ends of write and read, sumOf -/
section
variable {fc hd : Int32} {al sho shr us fo sw sc ho fr tc di : Nat → Int32} {V : Nat → Nat → Int32} {C : Nat → Nat}
theorem cw_pt {post : SX → Prop} {e c : Nat} (hX : cw_X C V fc hd sho us fo sw sc ho fr di) (he : e < 20) (hC : C e = c) (hc : c < 20) (h2 : 1 < cw_cn C c 20)
    (K : ∀ (c' : Nat) (V' : Nat → Nat → Int32) (hd' : Int32) (us' fo' sw' sc' ho' fr' tc' di' : Nat → Int32), c' < 20 → (∀ d, d < 20 → d ≠ e → C d ≠ c') → cw_X (cw_un C e c') V' fc hd' (upd sho e (nI c')) us' fo' sw' sc' ho' fr' di' →
      (∀ d, d ≠ c' → ∀ i, V' d i = V d i) → (∀ i, V' c' i = V c i) → post (fc, hd', al, upd sho e (nI c'), shr, us', fo', sw', sc', ho', fr', tc', di')) :
    wpX_part post (fc, hd, al, sho, shr, us, fo, sw, sc, ho, fr, tc, di) (nI e) := by
  have hE : cw_E 20 20 sho C := by
    obtain ⟨F, h, G, H, hF, hh, _, _, hE, _, _⟩ := hX
    exact hE
  obtain ⟨m, hm⟩ : ∃ m, cw_cn C c 20 = m + 1 := ⟨cw_cn C c 20 - 1, by omega⟩
  have hb := cw_cn_le C c 20
  have es : sho e = nI c := by rw [hE e he, hC]; exact cw_en_lt hc
  have ke : (nI e).toNatClampNeg = e := nI_clamp (by omega)
  have kc : (nI c).toNatClampNeg = c := nI_clamp (by omega)
  unfold wpX_part
  dsimp only
  rw [ke, es]
  refine ⟨vp_in_nI he (by decide), fun x ex => ?_⟩
  subst ex
  refine cw_br hX he hC hc (fun f F h G H fo' sw' sc' ho' fr' tc' di' hF hh efc hf hG hU hFr => ?_)
  have eu : us c = nI (m + 1) := by rw [(hU c hc).1, hm]
  dsimp only
  have k0 : (nI (4 * f)).toNatClampNeg = 4 * f := nI_clamp (by omega)
  have k1 : (nI (4 * f + 1)).toNatClampNeg = 4 * f + 1 := nI_clamp (by omega)
  have k2 : (nI (4 * f + 2)).toNatClampNeg = 4 * f + 2 := nI_clamp (by omega)
  have k3 : (nI (4 * f + 3)).toNatClampNeg = 4 * f + 3 := nI_clamp (by omega)
  rw [cw_y0, cw_y1, cw_y2, cw_y3, k0, k1, k2, k3, kc, eu, nI_pred, (cw_by m (by omega)).2]
  refine ⟨vp_in_nI (by omega) (by decide), fun x4 e4 => ⟨vp_in_nI (by omega) (by decide), fun x5 e5 => ⟨vp_in_nI (by omega) (by decide), fun x6 e6 => ⟨vp_in_nI (by omega) (by decide), fun x7 e7 => ⟨vp_in_nI hc (by decide), vp_in_nI hc (by decide), fun a ea => ?_⟩⟩⟩⟩⟩
  subst ea
  have hU1 : cw_U (cw_un C e 20) G (upd us c (nI m)) := cw_U_dec hU he hC hm (fun _ _ z => z) (fun z => by omega)
  have hC1 : ¬ cw_un C e 20 e < 20 := by rw [cw_us]; omega
  obtain ⟨c', hc', h0, W⟩ := cw_nc (fc := fc) (hd := nI h) (al := al) (sho := sho) (shr := shr) (fo := fo') (sw := sw') (sc := sc') (ho := ho') (fr := fr') (tc := tc') (di := di') hU1 he hC1
  refine W _ ?_
  dsimp only
  rw [(cw_by c' (by omega)).2]
  refine ⟨vp_in_nI he (by decide), fun b eb => ?_⟩
  subst eb
  have hX2 : cw_X (cw_un C e c') (fun d i => if d = c' then 0 else V d i) fc (nI h) (upd sho e (nI c')) (upd (upd us c (nI m)) c' 1) (upd fo' c' (-1)) (upd sw' c' 0) sc' ho' fr' di' := by
    refine ⟨F, h, G, H, hF, hh, efc, rfl, cw_E_upd hE (cw_en_lt hc').symm, ?_, cw_Fr_new hFr ((hU1 c' hc').2 h0) (fun d _ q i _ => if_neg q) (fun i _ => if_pos rfl)⟩
    have q := cw_U_inc (x := 1) hU1 he hC1 (c := c') (by rw [h0]; rfl)
    rw [cw_uu] at q
    exact q
  refine cw_br hX2 he cw_us hc' (fun f2 F2 h2 G2 H2 fo2 sw2 sc2 ho2 fr2 tc2 di2 hF2 hh2 efc2 hf2 hG2 hU2 hFr2 => ?_)
  dsimp only
  have k0 : (nI (4 * f2)).toNatClampNeg = 4 * f2 := nI_clamp (by omega)
  have k1 : (nI (4 * f2 + 1)).toNatClampNeg = 4 * f2 + 1 := nI_clamp (by omega)
  have k2 : (nI (4 * f2 + 2)).toNatClampNeg = 4 * f2 + 2 := nI_clamp (by omega)
  have k3 : (nI (4 * f2 + 3)).toNatClampNeg = 4 * f2 + 3 := nI_clamp (by omega)
  have k4 : (nI f2).toNatClampNeg = f2 := nI_clamp (by omega)
  rw [cw_y0, cw_y1, cw_y2, cw_y3, k0, k1, k2, k3, k4, cw_z1]
  refine ⟨vp_in_nI (by omega) (by decide), fun a1 e1 => ⟨vp_in_nI (by omega) (by decide), fun a2 e2 => ⟨vp_in_nI (by omega) (by decide), fun a3 e3 => ⟨vp_in_nI (by omega) (by decide), fun a4 e4' => ⟨vp_in_nI hf2 (by decide), fun d ed => ?_⟩⟩⟩⟩⟩
  have hv : ∀ i, i < 4 → V c i = fr' (4 * f + i) := by
    intro i hi
    rw [← hG]
    exact hFr.2.2.2.2.2.1 c hc (by omega) i hi
  have hw := cw_Fr_wr (V' := fun d i => if d = c' then V c i else V d i) (fr' := a4) (b := 1) hFr2 hc' (by omega) (by decide) (fun d _ q i _ => (if_neg q).trans (if_neg q).symm) (fun i hi => by
      rw [if_pos rfl, hG2, hv i hi]
      have hi' : i = 0 ∨ i = 1 ∨ i = 2 ∨ i = 3 := by omega
      rcases hi' with rfl | rfl | rfl | rfl
      · rw [e4', pk_un (by omega), e3, pk_un (by omega), e2, pk_un (by omega), e1, Nat.add_zero, Nat.add_zero, pk_us, e4]
      · rw [e4', pk_un (by omega), e3, pk_un (by omega), e2, pk_us, e5]
      · rw [e4', pk_un (by omega), e3, pk_us, e6]
      · rw [e4', pk_us, e7]) (fun j hj => by
      rw [hG2] at hj
      rw [e4', pk_un (by omega), e3, pk_un (by omega), e2, pk_un (by omega), e1, pk_un (by omega)])
  rw [hG2] at hw
  subst ed
  refine K c' _ (nI h2) _ _ _ _ _ _ _ _ hc' (fun d hd q z => ?_) ⟨F2, h2, G2, H2, hF2, hh2, efc2, rfl, cw_E_upd hE (cw_en_lt hc').symm, hU2, hw⟩ (fun d q i => if_neg q) (fun i => if_pos rfl)
  have := (cw_cn_0 _ _ _).mp h0 d hd
  rw [cw_ud q] at this
  exact this z
theorem cw_w87 {post : Int32 → SX → Prop} {e c x : Nat} {v : Int32} (hX : cw_X C V fc hd sho us fo sw sc ho fr di) (he : e < 20) (hC : C e = c) (hc : c < 20) (hx : x < 20)
    (K : ∀ (V' : Nat → Nat → Int32) (hd' : Int32) (fo' sw' sc' ho' fr' tc' di' : Nat → Int32), cw_X C V' fc hd' sho us fo' sw' sc' ho' fr' di' → (∀ d, d < 20 → d ≠ c → ∀ i, i < 4 → V' d i = V d i) → (∀ i, i < 4 → V' c i = if i = x % 4 then v else V c i) →
      post (nI x) (fc, hd', al, sho, shr, us, fo', sw', sc', ho', fr', tc', di')) :
    wX_write_87 post (nI x) v (nI e) fc hd al sho shr us fo sw sc ho fr tc di := by
  have hE : cw_E 20 20 sho C := by
    obtain ⟨F, h, G, H, hF, hh, _, _, hE, _, _⟩ := hX
    exact hE
  have es : sho e = nI c := by rw [hE e he, hC]; exact cw_en_lt hc
  have ke : (nI e).toNatClampNeg = e := nI_clamp (by omega)
  have ex : nI x &&& 3 = nI (x % 4) := pk_andN (by omega) 2 (by decide)
  unfold wX_write_87
  rw [ke, es, ex]
  refine ⟨vp_in_nI he (by decide), ?_⟩
  refine cw_br hX he hC hc (fun f F h G H fo' sw' sc' ho' fr' tc' di' hF hh efc hf hG hU hFr => ?_)
  dsimp only
  rw [cw_x4, nI_clamp (by omega), nI_clamp (by omega), cw_z1]
  refine ⟨vp_in_nI (by omega) (by decide), fun a ea => ⟨vp_in_nI hf (by decide), fun b eb => ?_⟩⟩
  have hw := cw_Fr_wr (V' := fun d i => if d = c then (if i = x % 4 then v else V c i) else V d i) (fr' := a) (b := 1) hFr hc (by omega) (by decide) (fun d _ q i _ => if_neg q) (fun i hi => by
      rw [if_pos rfl, hG, ea]
      by_cases q : i = x % 4
      · rw [if_pos q, q, pk_us]
      · rw [if_neg q, pk_un (by omega), hFr.2.2.2.2.2.1 c hc (by omega) i hi, hG]) (fun j hj => by
      rw [hG] at hj
      rw [ea, pk_un (by omega)])
  rw [hG, ← eb] at hw
  exact K _ (nI h) fo' sw' sc' ho' a tc' b ⟨F, h, G, H, hF, hh, efc, rfl, hE, hU, hw⟩ (fun d _ q i _ => if_neg q) (fun i _ => if_pos rfl)
theorem cw_so5 {post : Int64 → Prop} {c F : Nat} {G H : Nat → Nat} (hFr : cw_Fr F V G H fo sw sc ho fr di) (hc : c < 20) (K : post (cw_sm (V c) 4)) : ∀ (n i : Nat) (x : Int64), i ≤ 4 → 4 - i < n → x = cw_sm (V c) i →
    wX_sumOf_5 post (nI c) fc hd al sho shr us fo sw sc ho fr tc di n x (nI i) := by
  have kc : (nI c).toNatClampNeg = c := nI_clamp (by omega)
  intro n
  induction n with
  | zero => intro i x _ h; omega
  | succ n ih =>
    intro i x hi hn hx
    refine pk_le 4 i (fun hle => ?_) (fun hlt => ?_)
    · have : i = 4 := by omega
      rw [hx, this]
      exact K
    · rw [kc, cw_x4, hFr.1 c hc]
      refine ⟨vp_in_nI hc (by decide), br_c (fun h0 => ⟨vp_in_nI hc (by decide), br_c (fun h1 y ey => ?_) (fun h1 => ⟨vp_in_nI (by omega) (by decide), fun z ez y ey => ?_⟩)⟩) (fun h0 => ?_)⟩
      · have hv := hFr.2.2.2.2.1 c hc ((cw_en_ng (by decide)).mp h0) i hlt
        rw [nI_1] at ey
        subst ey
        refine ih (i + 1) x (by omega) (by omega) ?_
        rw [cw_sm_s, hv, hx]
        unfold cw_sv
        rw [if_pos h1]
        exact (Int64.add_zero _).symm
      · have hv := hFr.2.2.2.2.1 c hc ((cw_en_ng (by decide)).mp h0) i hlt
        rw [nI_1] at ey
        rw [nI_clamp (by omega)] at ez
        subst ey
        refine ih (i + 1) z (by omega) (by omega) ?_
        rw [cw_sm_s, hv, ez, hx]
        unfold cw_sv
        rw [if_neg h1]
      · have hG : G c < 6 := Classical.byContradiction (fun z => h0 ((cw_en_ng (by decide)).mpr z))
        rw [cw_en_lt hG, cw_x4]
        refine ⟨vp_in_nI hc (by decide), vp_in_nI (by omega) (by decide), fun z ez y ey => ?_⟩
        rw [nI_1] at ey
        rw [nI_clamp (by omega)] at ez
        subst ey
        refine ih (i + 1) z (by omega) (by omega) ?_
        rw [cw_sm_s, hFr.2.2.2.2.2.1 c hc hG i hlt, ez, hx]
theorem cw_so {post : Int64 → Prop} {c : Nat} (hX : cw_X C V fc hd sho us fo sw sc ho fr di) (hc : c < 20) (K : post (cw_sm (V c) 4)) :
    wpX_sumOf post (fc, hd, al, sho, shr, us, fo, sw, sc, ho, fr, tc, di) (nI c) := by
  obtain ⟨F, h, G, H, hF, hh, _, _, hE, hU, hFr⟩ := hX
  exact ⟨5, cw_so5 hFr hc K 5 0 0 (by omega) (by omega) rfl⟩
end
end
section
/-! the reference's walks -/
section
variable {al st op ce : Nat → Int32} {S : Nat → Nat}
theorem cw_yu2 {post : Int32 → Prop} {s : Nat} (hE : cw_E 20 20 st S) (hs : s < 20) (K : post (if cw_cn S s 20 = 0 then 0 else 1)) : ∀ n k : Nat, k ≤ 20 → 20 - k < n → cw_cn S s k = 0 → wY_used_2 post (nI s) al st op ce n (nI k) := by
  intro n
  induction n with
  | zero => intro k _ h; omega
  | succ n ih =>
    intro k hk hn h0
    refine pk_le 20 k (fun hle => ?_) (fun hlt => ⟨vp_in_nI hlt (by decide), ?_⟩)
    · have e : k = 20 := by omega
      rw [e] at h0
      rw [if_pos h0] at K
      exact K
    · rw [nI_clamp (by omega), hE k hlt]
      refine br_c (fun h1 => ?_) (fun h1 y ey => ?_)
      · have h2 := (cw_en_eq (by decide) hs).mp h1
        have h3 := cw_cn_pos hlt h2
        rw [if_neg (by omega)] at K
        exact K
      · rw [nI_1] at ey
        subst ey
        refine ih (k + 1) (by omega) (by omega) ?_
        rw [cw_cn_s, h0, if_neg (fun z => h1 ((cw_en_eq (by decide) hs).mpr z))]
theorem cw_yu {post : Int32 → Prop} {s : Nat} (hE : cw_E 20 20 st S) (hs : s < 20) (K : post (if cw_cn S s 20 = 0 then 0 else 1)) : wpY_used post (al, st, op, ce) (nI s) :=
  ⟨21, cw_yu2 hE hs K 21 0 (by omega) (by omega) rfl⟩
theorem cw_yn2 {post : Int32 → Prop} {s : Nat} (hE : cw_E 20 20 st S) (hs : s < 20) (h0 : cw_cn S s 20 = 0) (hl : ∀ d, d < s → ¬ cw_cn S d 20 = 0) (K : post (nI s)) :
    ∀ n x : Nat, x ≤ s → s - x < n → wY_newSheet_2 post al st op ce n (nI x) := by
  intro n
  induction n with
  | zero => intro x _ h; omega
  | succ n ih =>
    intro x hx hn
    refine pk_le 20 x (fun hle => absurd hle (by omega)) (fun hlt => cw_yu hE hlt ?_)
    by_cases q : x = s
    · rw [q, if_pos h0]
      exact br_t rfl K
    · rw [if_neg (hl x (by omega))]
      refine br_f (by decide) (fun y ey => ?_)
      rw [nI_1] at ey
      subst ey
      exact ih (x + 1) (by omega) (by omega)
theorem cw_yn {e : Nat} (hE : cw_E 20 20 st S) (he : e < 20) (hS : ¬ S e < 20) : ∃ s, s < 20 ∧ (∀ d, d < 20 → S d ≠ s) ∧ ∀ post : Int32 → Prop, post (nI s) → wpY_newSheet post (al, st, op, ce) := by
  obtain ⟨s, ⟨hs, h0⟩, hl⟩ := pk_least (fun s => s < 20 ∧ cw_cn S s 20 = 0) (cw_free he hS)
  exact ⟨s, hs, (cw_cn_0 S s 20).mp h0, fun post K => ⟨s + 1, cw_yn2 hE hs h0 (fun d hd z => hl d hd ⟨by omega, z⟩) K (s + 1) 0 (by omega) (by omega)⟩⟩
theorem cw_ym55 {post : Int32 → SY → Prop} {p k s : Nat} {b : Int32} (hp : p < 4) (hk : k < 5) (hs : s < 20) : ∀ (n i : Nat) (ce : Nat → Int32), i ≤ 4 → 4 - i < n →
    (∀ ce' : Nat → Int32, (∀ j, i ≤ j → j < 4 → ce' (4 * s + j) = 0) → (∀ j, (j < 4 * s + i ∨ 4 * s + 4 ≤ j) → ce' j = ce j) → post (nI k) (al, upd st (5 * p + k) (nI s), upd op (5 * p + k) (vp_nar .boolean b), ce')) →
    wY_map_55 post (nI p) (nI k) b (nI s) n (nI i) al st op ce := by
  intro n
  induction n with
  | zero => intro i ce _ h; omega
  | succ n ih =>
    intro i ce hi hn K
    refine pk_le 4 i (fun hle => ?_) (fun hlt => ?_)
    · rw [cw_x5, nI_clamp (by omega)]
      refine ⟨vp_in_nI (by omega) (by decide), fun a ea => ⟨vp_in_nI (by omega) (by decide), fun b eb => ?_⟩⟩
      subst ea eb
      exact K ce (fun j h1 h2 => by omega) (fun j _ => rfl)
    · rw [cw_x4, nI_clamp (by omega)]
      refine ⟨vp_in_nI (by omega) (by decide), fun a ea x ex => ?_⟩
      rw [nI_1] at ex
      subst ea ex
      refine ih (i + 1) _ (by omega) (by omega) (fun ce' h1 h2 => K ce' (fun j a b => ?_) (fun j hj => ?_))
      · by_cases q : j = i
        · rw [q, h2 (4 * s + i) (by omega), pk_us]
        · exact h1 j (by omega) b
      · rw [h2 j (by omega), pk_un (by omega)]
theorem cw_yc63 {post : SY → Prop} {a b : Nat} {x : Int32} (ha : a < 20) (hb : b < 20) (K : post (al, upd st b x, upd op b (vp_nar .boolean (op a)), ce)) : wY_copyPage_63 post (nI a) (nI b) x al st op ce := by
  unfold wY_copyPage_63
  rw [nI_clamp (by omega), nI_clamp (by omega)]
  refine ⟨vp_in_nI hb (by decide), fun y ey => ⟨vp_in_nI ha (by decide), vp_in_nI hb (by decide), fun z ez => ?_⟩⟩
  subst ey ez
  exact K
theorem cw_yc24 {post : SY → Prop} {a b s t : Nat} (ha : a < 20) (hst : st a = nI t) (hs : s < 20) (ht : t < 20) (hne : s ≠ t) : ∀ (n i : Nat) (ce : Nat → Int32), i ≤ 4 → 4 - i < n →
    (∀ ce' : Nat → Int32, (∀ j, i ≤ j → j < 4 → ce' (4 * s + j) = ce (4 * t + j)) → (∀ j, (j < 4 * s + i ∨ 4 * s + 4 ≤ j) → ce' j = ce j) → wY_copyPage_63 post (nI a) (nI b) (nI s) al st op ce') →
    wY_copyPage_24 post (nI a) (nI b) (nI s) n (nI i) al st op ce := by
  intro n
  induction n with
  | zero => intro i ce _ h; omega
  | succ n ih =>
    intro i ce hi hn K
    refine pk_le 4 i (fun hle => K ce (fun j h1 h2 => by omega) (fun j _ => rfl)) (fun hlt => ?_)
    have k1 : (nI (4 * t + i)).toNatClampNeg = 4 * t + i := nI_clamp (by omega)
    have k2 : (nI (4 * s + i)).toNatClampNeg = 4 * s + i := nI_clamp (by omega)
    have k3 : (nI a).toNatClampNeg = a := nI_clamp (by omega)
    rw [k3, hst, cw_x4, cw_x4, k1, k2]
    refine ⟨vp_in_nI ha (by decide), vp_in_nI (by omega) (by decide), vp_in_nI (by omega) (by decide), fun x ex y ey => ?_⟩
    rw [nI_1] at ey
    subst ex ey
    refine ih (i + 1) _ (by omega) (by omega) (fun ce' h1 h2 => K ce' (fun j c d => ?_) (fun j hj => ?_))
    · by_cases q : j = i
      · rw [q, h2 (4 * s + i) (by omega), pk_us]
      · rw [h1 j (by omega) d, pk_un (by omega)]
    · rw [h2 j (by omega), pk_un (by omega)]
/-- copyPage of a shared page -/
theorem cw_ycS {post : SY → Prop} {a b t : Nat} (ha : a < 20) (hb : b < 20) (hst : st a = nI t) (ho : ¬ op a = 0) (K : post (al, upd st b (nI t), upd op b (vp_nar .boolean (op a)), ce)) : wpY_copyPage post (al, st, op, ce) (nI a) (nI b) := by
  unfold wpY_copyPage
  dsimp only
  rw [nI_clamp (by omega), hst]
  refine ⟨vp_in_nI ha (by decide), fun x ex => ⟨vp_in_nI ha (by decide), br_f ho ?_⟩⟩
  subst ex
  exact cw_yc63 ha hb K
/-- copyPage of a page that is not shared -/
theorem cw_ycP {a b t : Nat} (hE : cw_E 20 20 st S) (ha : a < 20) (hb : b < 20) (hst : S a = t) (ht : t < 20) (hS : ¬ S b < 20) (ho : op a = 0) : ∃ s, s < 20 ∧ (∀ d, d < 20 → S d ≠ s) ∧ ∀ post : SY → Prop,
    (∀ ce' : Nat → Int32, (∀ j, j < 4 → ce' (4 * s + j) = ce (4 * t + j)) → (∀ j, (j < 4 * s ∨ 4 * s + 4 ≤ j) → ce' j = ce j) → post (al, upd st b (nI s), upd op b (vp_nar .boolean (op a)), ce')) →
    wpY_copyPage post (al, st, op, ce) (nI a) (nI b) := by
  obtain ⟨s, hs, hf, W⟩ := cw_yn (al := al) (op := op) (ce := ce) hE hb hS
  have e : st a = nI t := by rw [hE a ha, hst]; exact cw_en_lt ht
  refine ⟨s, hs, hf, fun post K => ?_⟩
  unfold wpY_copyPage
  dsimp only
  rw [nI_clamp (by omega)]
  refine ⟨vp_in_nI ha (by decide), fun x ex => ⟨vp_in_nI ha (by decide), br_t ho (W _ ⟨5, ?_⟩)⟩⟩
  exact cw_yc24 ha e hs ht (fun z => hf a ha (hst.trans z.symm)) 5 0 ce (by omega) (by omega) (fun ce' h1 h2 => cw_yc63 ha hb (K ce' (fun j hj => h1 j (by omega) hj) (fun j hj => h2 j (by omega))))
theorem cw_ys51 {post : Int32 → Prop} {p k s : Nat} (hE : cw_E 20 20 st S) (hp : p < 4) (hk : k < 5) (hs : s < 20) (hS : S (5 * p + k) = s) (K : post (nI (cw_cn S s 20))) : ∀ (n i : Nat), i ≤ 20 → 20 - i < n →
    wY_showing_51 post (nI p) (nI k) al st op ce n (nI (cw_cn S s i)) (nI i) := by
  have e : st (5 * p + k) = nI s := by rw [hE _ (by omega), hS]; exact cw_en_lt hs
  intro n
  induction n with
  | zero => intro i _ h; omega
  | succ n ih =>
    intro i hi hn
    refine pk_le 20 i (fun hle => ?_) (fun hlt => ?_)
    · have q : i = 20 := by omega
      rw [q]
      exact K
    · have k1 : (nI (5 * p + k)).toNatClampNeg = 5 * p + k := nI_clamp (by omega)
      have k2 : (nI i).toNatClampNeg = i := nI_clamp (by omega)
      have h1 := ih (i + 1) (by omega) (by omega)
      rw [cw_cn_s] at h1
      rw [cw_x5, k1, k2, e, hE i hlt]
      refine ⟨vp_in_nI hlt (by decide), vp_in_nI (by omega) (by decide), br_c (fun h0 x ex y ey => ?_) (fun h0 y ey => ?_)⟩
      · rw [if_pos ((cw_en_eq (by decide) hs).mp h0)] at h1
        rw [nI_1] at ex ey
        subst ex ey
        exact h1
      · rw [if_neg (fun z => h0 ((cw_en_eq (by decide) hs).mpr z)), Nat.add_zero] at h1
        rw [nI_1] at ey
        subst ey
        exact h1
theorem cw_yt13 {post : Int64 → Prop} {J : Int64 → Int32 → Prop} {s : Nat} {acc : Int64} (hE : cw_E 20 20 st S) (hs : s < 20) (K : J (acc + (if cw_cn S s 20 = 0 then 0 else cw_sm (fun i => ce (4 * s + i)) 4)) (nI (s + 1))) : ∀ (n i : Nat) (x : Int64), i ≤ 4 → 4 - i < n →
    x = acc + (if cw_cn S s 20 = 0 then 0 else cw_sm (fun i => ce (4 * s + i)) i) → wY_total_13 post J (nI s) al st op ce n x (nI i) := by
  intro n
  induction n with
  | zero => intro i x _ h; omega
  | succ n ih =>
    intro i x hi hn hx
    refine pk_le 4 i (fun hle y ey => ?_) (fun hlt => cw_yu hE hs ?_)
    · have q : i = 4 := by omega
      rw [q] at hx
      rw [nI_1] at ey
      subst ey
      rw [hx]
      exact K
    · by_cases q : cw_cn S s 20 = 0
      · rw [if_pos q]
        refine br_t rfl (fun y ey => ?_)
        rw [nI_1] at ey
        subst ey
        refine ih (i + 1) x (by omega) (by omega) ?_
        rw [if_pos q] at hx ⊢
        exact hx
      · rw [if_neg q, cw_x4, nI_clamp (by omega)]
        refine br_f (by decide) ⟨vp_in_nI (by omega) (by decide), fun z ez y ey => ?_⟩
        rw [nI_1] at ey
        subst ey
        refine ih (i + 1) z (by omega) (by omega) ?_
        rw [if_neg q] at hx ⊢
        rw [ez, hx, cw_sm_s, Int64.add_assoc]
theorem cw_yt4 {post : Int64 → Prop} (hE : cw_E 20 20 st S) (K : post (cw_ty S (fun s => cw_sm (fun i => ce (4 * s + i)) 4) 20 20)) : ∀ (n s : Nat) (x : Int64), s ≤ 20 → 20 - s < n →
    x = cw_ty S (fun s => cw_sm (fun i => ce (4 * s + i)) 4) 20 s → wY_total_4 post al st op ce n x (nI s) := by
  intro n
  induction n with
  | zero => intro s x _ h; omega
  | succ n ih =>
    intro s x hs hn hx
    refine pk_le 20 s (fun hle => ?_) (fun hlt => ⟨5, ?_⟩)
    · have q : s = 20 := by omega
      rw [hx, q]
      exact K
    · refine cw_yt13 (acc := x) hE hlt (ih (s + 1) _ (by omega) (by omega) ?_) 5 0 x (by omega) (by omega) ?_
      · rw [cw_ty_s, hx]
      · have e : (if cw_cn S s 20 = 0 then 0 else cw_sm (fun i => ce (4 * s + i)) 0) = (0 : Int64) := by
          split <;> rfl
        rw [e, Int64.add_zero]
theorem cw_yt {post : Int64 → Prop} (hE : cw_E 20 20 st S) (K : post (cw_ty S (fun s => cw_sm (fun i => ce (4 * s + i)) 4) 20 20)) : wpY_total post (al, st, op, ce) :=
  ⟨21, cw_yt4 hE K 21 0 0 (by omega) (by omega) rfl⟩
theorem cw_yh4 {post : Int32 → Prop} (hE : cw_E 20 20 st S) (K : post (nI (cw_ny S 20 20))) : ∀ (n s : Nat), s ≤ 20 → 20 - s < n → wY_sheets_4 post al st op ce n (nI (cw_ny S 20 s)) (nI s) := by
  intro n
  induction n with
  | zero => intro s _ h; omega
  | succ n ih =>
    intro s hs hn
    refine pk_le 20 s (fun hle => ?_) (fun hlt => cw_yu hE hlt ?_)
    · have q : s = 20 := by omega
      rw [q]
      exact K
    · have h1 := ih (s + 1) (by omega) (by omega)
      rw [cw_ny_s] at h1
      by_cases q : cw_cn S s 20 = 0
      · rw [if_pos q] at h1 ⊢
        refine br_t rfl (fun y ey => ?_)
        rw [nI_1] at ey
        subst ey
        exact h1
      · rw [if_neg q] at h1 ⊢
        refine br_f (by decide) (fun x ex y ey => ?_)
        rw [nI_1] at ex ey
        subst ex ey
        exact h1
theorem cw_yh {post : Int32 → Prop} (hE : cw_E 20 20 st S) (K : post (nI (cw_ny S 20 20))) : wpY_sheets post (al, st, op, ce) :=
  ⟨21, cw_yh4 hE K 21 0 (by omega) (by omega)⟩
theorem cw_yB {A B : Prop} {p0 p1 : Int32} (hb : p0 < 0 ∨ 3 < p0 ∨ p1 < 0 ∨ 4 < p1) (hA : A) :
    wpY_isProcess (fun r => (r = 0 → A) ∧ (¬ r = 0 → wpY_isPage (fun q => (q = 0 → A) ∧ (¬ q = 0 → B)) (al, st, op, ce) p1)) (al, st, op, ce) p0 := by
  refine br_c (fun _ => br_t rfl hA) (fun a => br_c (fun _ => br_t rfl hA) (fun b => br_f (by decide) (br_c (fun _ => br_t rfl hA) (fun c => br_c (fun _ => br_t rfl hA) (fun d => ?_)))))
  rcases hb with h | h | h | h
  · exact absurd h a
  · exact absurd h b
  · exact absurd h c
  · exact absurd h d
theorem cw_yG {A A' B : Prop} {p k : Nat} (hp : p < 4) (hk : k < 5) (hB : B) :
    wpY_isProcess (fun r => (r = 0 → A) ∧ (¬ r = 0 → wpY_isPage (fun q => (q = 0 → A') ∧ (¬ q = 0 → B)) (al, st, op, ce) (nI k))) (al, st, op, ce) (nI p) :=
  br_f (nI_pos (by omega)) (br_f (nI_nlt (a := 3) (by omega) (by decide)) (br_f (by decide) (br_f (nI_pos (by omega)) (br_f (nI_nlt (a := 4) (by omega) (by decide)) (br_f (by decide) hB)))))
/-- a process alone -/
theorem cw_yPB {A B : Prop} {p0 : Int32} (hb : p0 < 0 ∨ 3 < p0) (hA : A) : wpY_isProcess (fun r => (r = 0 → A) ∧ (¬ r = 0 → B)) (al, st, op, ce) p0 := by
  refine br_c (fun _ => br_t rfl hA) (fun a => br_c (fun _ => br_t rfl hA) (fun b => ?_))
  rcases hb with h | h
  · exact absurd h a
  · exact absurd h b
theorem cw_yPG {A B : Prop} {p : Nat} (hp : p < 4) (hB : B) : wpY_isProcess (fun r => (r = 0 → A) ∧ (¬ r = 0 → B)) (al, st, op, ce) (nI p) :=
  br_f (nI_pos (by omega)) (br_f (nI_nlt (a := 3) (by omega) (by decide)) (br_f (by decide) hB))
end
end
section
/-! the pages of both sides, with no program in sight -/
def cw_P (C S : Nat → Nat) (V : Nat → Nat → Int32) (sh op ce : Nat → Int32) : Prop :=
  (∀ e, e < 20 → (C e < 20 ↔ S e < 20)) ∧
  (∀ e, e < 20 → C e < 20 → (sh e = 0 ∨ sh e = 1) ∧ op e = sh e ∧ ∀ i, i < 4 → V (C e) i = ce (4 * S e + i)) ∧
  (∀ e d, e < 20 → d < 20 → C e < 20 → C d = C e → sh d = sh e) ∧
  (∀ e d, e < 20 → d < 20 → C e < 20 → C d < 20 → (S d = S e ↔ (d = e ∨ (C d = C e ∧ sh e = 1))))
section
variable {C S : Nat → Nat} {V V' : Nat → Nat → Int32} {sh op ce sh' op' ce' : Nat → Int32}
theorem cw_P_set {e c s : Nat} (h : cw_P C S V sh op ce) (hc : c < 20) (hs : s < 20) (hb : sh' e = 0 ∨ sh' e = 1) (ho : op' e = sh' e) (hsh : ∀ d, d ≠ e → sh' d = sh d) (hop : ∀ d, d ≠ e → op' d = op d)
    (hV : ∀ d, d < 20 → d ≠ e → C d < 20 → ∀ i, i < 4 → V' (C d) i = V (C d) i) (hce : ∀ d, d < 20 → d ≠ e → C d < 20 → ∀ i, i < 4 → ce' (4 * S d + i) = ce (4 * S d + i)) (hn : ∀ i, i < 4 → V' c i = ce' (4 * s + i))
    (hcs : ∀ d, d < 20 → d ≠ e → C d = c → sh d = sh' e) (hss : ∀ d, d < 20 → d ≠ e → C d < 20 → (S d = s ↔ (C d = c ∧ sh' e = 1))) : cw_P (cw_un C e c) (cw_un S e s) V' sh' op' ce' := by
  obtain ⟨h1, h2, h3, h4⟩ := h
  refine ⟨fun d hd => ?_, fun d hd hl => ?_, fun a d ha hd hl hq => ?_, fun a d ha hd hl hm => ?_⟩
  · by_cases q : d = e
    · rw [q, cw_us, cw_us]
      exact ⟨fun _ => hs, fun _ => hc⟩
    · rw [cw_ud q, cw_ud q]
      exact h1 d hd
  · by_cases q : d = e
    · rw [q, cw_us, cw_us]
      exact ⟨hb, ho, hn⟩
    · rw [cw_ud q] at hl ⊢
      rw [cw_ud q, hsh d q, hop d q]
      refine ⟨(h2 d hd hl).1, (h2 d hd hl).2.1, fun i hi => ?_⟩
      rw [hV d hd q hl i hi, hce d hd q hl i hi]
      exact (h2 d hd hl).2.2 i hi
  · by_cases q : a = e
    · by_cases r : d = e
      · rw [q, r]
      · rw [q, cw_us, cw_ud r] at hq
        rw [q, hsh d r]
        exact hcs d hd r hq
    · rw [cw_ud q] at hl hq
      by_cases r : d = e
      · rw [r, cw_us] at hq
        rw [r, hsh a q]
        exact (hcs a ha q hq.symm).symm
      · rw [cw_ud r] at hq
        rw [hsh a q, hsh d r]
        exact h3 a d ha hd hl hq
  · by_cases q : a = e
    · by_cases r : d = e
      · rw [q, r]
        exact ⟨fun _ => Or.inl rfl, fun _ => rfl⟩
      · rw [cw_ud r] at hm
        rw [q, cw_us, cw_us, cw_ud r, cw_ud r]
        have := hss d hd r hm
        exact ⟨fun z => Or.inr (this.mp z), fun z => z.elim (fun y => absurd y r) this.mpr⟩
    · rw [cw_ud q] at hl
      by_cases r : d = e
      · rw [r, cw_us, cw_us, cw_ud q, cw_ud q, hsh a q]
        have := hss a ha q hl
        constructor
        · intro z
          have y := this.mp z.symm
          exact Or.inr ⟨y.1.symm, (hcs a ha q y.1).trans y.2⟩
        · intro z
          rcases z with z | z
          · exact absurd z.symm q
          · exact (this.mpr ⟨z.1.symm, (hcs a ha q z.1.symm).symm.trans z.2⟩).symm
      · rw [cw_ud r] at hm
        rw [cw_ud q, cw_ud q, cw_ud r, cw_ud r, hsh a q]
        exact h4 a d ha hd hl hm
theorem cw_P_clr {e : Nat} (h : cw_P C S V sh op ce) (hV : ∀ d, d < 20 → d ≠ e → C d < 20 → ∀ i, i < 4 → V' (C d) i = V (C d) i) : cw_P (cw_un C e 20) (cw_un S e 20) V' sh op ce := by
  obtain ⟨h1, h2, h3, h4⟩ := h
  have key : ∀ d, cw_un C e 20 d < 20 → d ≠ e := by
    intro d hl q
    rw [q, cw_us] at hl
    omega
  refine ⟨fun d hd => ?_, fun d hd hl => ?_, fun a d ha hd hl hq => ?_, fun a d ha hd hl hm => ?_⟩
  · by_cases q : d = e
    · rw [q, cw_us, cw_us]
    · rw [cw_ud q, cw_ud q]
      exact h1 d hd
  · have q := key d hl
    rw [cw_ud q] at hl ⊢
    rw [cw_ud q]
    refine ⟨(h2 d hd hl).1, (h2 d hd hl).2.1, fun i hi => ?_⟩
    rw [hV d hd q hl i hi]
    exact (h2 d hd hl).2.2 i hi
  · have q := key a hl
    have r := key d (by rw [hq]; exact hl)
    rw [cw_ud q] at hl hq
    rw [cw_ud r] at hq
    exact h3 a d ha hd hl hq
  · have q := key a hl
    have r := key d hm
    rw [cw_ud q] at hl
    rw [cw_ud r] at hm
    rw [cw_ud q, cw_ud q, cw_ud r, cw_ud r]
    exact h4 a d ha hd hl hm
theorem cw_P_cg (h : cw_P C S V sh op ce) (hsh : ∀ d, d < 20 → C d < 20 → sh' d = sh d) : cw_P C S V sh' op ce := by
  obtain ⟨h1, h2, h3, h4⟩ := h
  refine ⟨h1, fun d hd hl => ?_, fun a d ha hd hl hq => ?_, fun a d ha hd hl hm => ?_⟩
  · rw [hsh d hd hl]
    exact h2 d hd hl
  · rw [hsh a ha hl, hsh d hd (by omega)]
    exact h3 a d ha hd hl hq
  · rw [hsh a ha hl]
    exact h4 a d ha hd hl hm
theorem cw_P_wr {e j : Nat} {v : Int32} (h : cw_P C S V sh op ce) (he : e < 20) (hC : C e < 20) (hu : sh e = 1 ∨ ∀ d, d < 20 → C d = C e → d = e) (hj : j < 4)
    (hV : ∀ d, d < 20 → d ≠ C e → ∀ i, i < 4 → V' d i = V d i) (hn : ∀ i, i < 4 → V' (C e) i = if i = j then v else V (C e) i) : cw_P C S V' sh op (upd ce (4 * S e + j) v) := by
  obtain ⟨h1, h2, h3, h4⟩ := h
  refine ⟨h1, fun d hd hl => ⟨(h2 d hd hl).1, (h2 d hd hl).2.1, fun i hi => ?_⟩, h3, h4⟩
  by_cases q : C d = C e
  · have hS : S d = S e := by
      rcases hu with hu | hu
      · exact (h4 e d he hd hC hl).mpr (Or.inr ⟨q, hu⟩)
      · rw [hu d hd q]
    rw [q, hS, hn i hi]
    by_cases r : i = j
    · rw [if_pos r, r, pk_us]
    · rw [if_neg r, pk_un (by omega)]
      exact (h2 e he hC).2.2 i hi
  · have hS : S d ≠ S e := by
      intro z
      rcases (h4 e d he hd hC hl).mp z with y | y
      · exact q (by rw [y])
      · exact q y.1
    rw [hV (C d) hl q i hi, pk_un (by omega)]
    exact (h2 d hd hl).2.2 i hi
theorem cw_P_cnt {e : Nat} (h : cw_P C S V sh op ce) (he : e < 20) (hC : C e < 20) : cw_cn S (S e) 20 = if sh e = 0 then 1 else cw_cn C (C e) 20 := by
  obtain ⟨h1, h2, h3, h4⟩ := h
  have hS := (h1 e he).mp hC
  have key : ∀ d, d < 20 → S d = S e → C d < 20 := fun d hd z => (h1 d hd).mpr (by omega)
  rcases (h2 e he hC).1 with z | z
  · rw [if_pos z]
    refine cw_cn_one he rfl (fun d hd q => ?_)
    rcases (h4 e d he hd hC (key d hd q)).mp q with y | y
    · exact y
    · rw [z] at y
      exact absurd y.2 (by decide)
  · rw [if_neg (by rw [z]; decide)]
    refine cw_cn_cg 20 (fun d hd => ⟨fun q => ?_, fun q => ?_⟩)
    · rcases (h4 e d he hd hC (key d hd q)).mp q with y | y
      · rw [y]
      · exact y.1
    · exact (h4 e d he hd hC (by omega)).mpr (Or.inr ⟨q, z⟩)
theorem cw_P_fst {e : Nat} (h : cw_P C S V sh op ce) (he : e < 20) (hC : C e < 20) : cw_cn S (S e) e = 0 ↔ (sh e = 0 ∨ cw_cn C (C e) e = 0) := by
  obtain ⟨h1, h2, h3, h4⟩ := h
  have hS := (h1 e he).mp hC
  rw [cw_cn_0, cw_cn_0]
  constructor
  · intro z
    rcases (h2 e he hC).1 with y | y
    · exact Or.inl y
    · refine Or.inr (fun d hd q => z d hd ?_)
      exact (h4 e d he (by omega) hC (by omega)).mpr (Or.inr ⟨q, y⟩)
  · intro z d hd q
    have hl : C d < 20 := (h1 d (by omega)).mpr (by omega)
    rcases (h4 e d he (by omega) hC hl).mp q with y | y
    · omega
    · rcases z with z | z
      · rw [z] at y
        exact absurd y.2 (by decide)
      · exact z d hd y.1
end
/-! bits of the 'seen' word -/
theorem cw_bt1 : ∀ i, i < 32 → bt 1 i = decide (i = 0) := by decide +kernel
theorem cw_bit (x : Int32) {c : Nat} (hc : c < 32) : ((x >>> (nI c &&& 31)) &&& 1) = 0 ↔ bt x c = false := by
  constructor
  · intro h
    have h1 : bt ((x >>> (nI c &&& 31)) &&& 1) 0 = bt 0 0 := by rw [h]
    rw [b_and, b_sshr c hc x (by omega), cw_bt1 0 (by omega), b_0, if_pos (by omega)] at h1
    simpa using h1
  · intro h
    apply b_ext
    intro i hi
    rw [b_and, b_0, cw_bt1 i hi]
    by_cases q : i = 0
    · rw [q, b_sshr c hc x (by omega), if_pos (by omega), Nat.add_zero, h]
      rfl
    · rw [decide_eq_false q, Bool.and_false]
theorem cw_bset (x : Int32) {c i : Nat} (hc : c < 32) (hi : i < 32) : bt (x ||| ((1 : Int32) <<< (nI c &&& 31))) i = (bt x i || decide (i = c)) := by
  rw [b_or, b_shl c hc 1 hi]
  by_cases q : c ≤ i
  · rw [cw_bt1 (i - c) (by omega), decide_eq_true q, Bool.true_and]
    congr 1
    rw [decide_eq_decide]
    omega
  · rw [decide_eq_false q, decide_eq_false (by omega), Bool.false_and]
theorem cw_b00 (i : Nat) : bt 0 i = false := b_0 i
end
section
/-! the relation, the constructors, checks -/
def cw_D (al : Nat → Int32) (C : Nat → Nat) : Prop := ∀ p, p < 4 → al p = 0 → ∀ k, k < 5 → ¬ C (5 * p + k) < 20
theorem cw_D_set {al : Nat → Int32} {C : Nat → Nat} {p k c : Nat} (h : cw_D al C) (hk : k < 5) (ha : ¬ al p = 0) : cw_D al (cw_un C (5 * p + k) c) := by
  intro q hq h0 j hj
  have hne : q ≠ p := by
    intro z
    rw [z] at h0
    exact ha h0
  rw [cw_ud (by omega)]
  exact h q hq h0 j hj
/-- the relation: alive is one function; pages, contents and sheets are alike by cw_X, cw_E, cw_P; the dead have no pages -/
def i_Rel (k : Nat) (u : SX) (v : SY) : Prop :=
  match u, v with
  | (fc, hd, al, sho, shr, us, fo, sw, sc, ho, fr, _, di), (al', st, op, ce) => al = al' ∧ ∃ (C S : Nat → Nat) (V : Nat → Nat → Int32), cw_D al C ∧ cw_X C V fc hd sho us fo sw sc ho fr di ∧ cw_E 20 20 st S ∧ cw_P C S V shr op ce
theorem i_up {k : Nat} {u : SX} {v : SY} (h : i_Rel k u v) : i_Rel (k + 4) u v := h
theorem cw_mk {k : Nat} {fc hd : Int32} {al sho shr us fo sw sc ho fr tc di st op ce : Nat → Int32} {C S : Nat → Nat} {V : Nat → Nat → Int32} (hD : cw_D al C) (hX : cw_X C V fc hd sho us fo sw sc ho fr di) (hE : cw_E 20 20 st S) (hP : cw_P C S V shr op ce) :
    i_Rel k (fc, hd, al, sho, shr, us, fo, sw, sc, ho, fr, tc, di) (al, st, op, ce) := ⟨rfl, C, S, V, hD, hX, hE, hP⟩
/-! constructors -/
section
variable {fc hd : Int32} {al sho shr us fo sw sc ho fr tc di : Nat → Int32}
theorem cw_i153 {post : SX → Prop} (K : ∀ ho : Nat → Int32, (∀ e, e < 6 → ho e = -1) → post (fc, hd, al, sho, shr, us, fo, sw, sc, ho, fr, tc, di)) : ∀ (n k : Nat) (ho : Nat → Int32), k ≤ 6 → 6 - k < n → (∀ e, e < k → ho e = -1) →
    wX_init_153 post fc hd n (nI k) al sho shr us fo sw sc ho fr tc di := by
  intro n
  induction n with
  | zero => intro k ho _ h; omega
  | succ n ih =>
    intro k ho hk hn h1
    refine pk_le 6 k (fun hle => K ho (fun e he => h1 e (by omega))) (fun hlt => ⟨vp_in_nI hlt (by decide), fun a ea x ex => ?_⟩)
    rw [nI_clamp (by omega), cw_b1] at ea
    rw [nI_1] at ex
    subst ea ex
    refine ih (k + 1) _ (by omega) (by omega) (fun e he => ?_)
    by_cases q : e = k
    · rw [q, pk_us]
    · rw [pk_un q]
      exact h1 e (by omega)
theorem cw_i125 {post : SX → Prop} (K : ∀ sho fo : Nat → Int32, (∀ e, e < 20 → sho e = -1 ∧ fo e = -1) → ∃ n153 : Nat, wX_init_153 post fc hd n153 0 al sho shr us fo sw sc ho fr tc di) : ∀ (n k : Nat) (sho fo : Nat → Int32), k ≤ 20 → 20 - k < n → (∀ e, e < k → sho e = -1 ∧ fo e = -1) →
    wX_init_125 post fc hd n (nI k) al sho shr us fo sw sc ho fr tc di := by
  intro n
  induction n with
  | zero => intro k sho fo _ h; omega
  | succ n ih =>
    intro k sho fo hk hn h1
    refine pk_le 20 k (fun hle => K sho fo (fun e he => h1 e (by omega))) (fun hlt => ⟨vp_in_nI hlt (by decide), fun a ea => ⟨vp_in_nI hlt (by decide), fun b eb x ex => ?_⟩⟩)
    rw [nI_clamp (by omega), cw_b1] at ea eb
    rw [nI_1] at ex
    subst ea eb ex
    refine ih (k + 1) _ _ (by omega) (by omega) (fun e he => ?_)
    by_cases q : e = k
    · rw [q, pk_us, pk_us]
      exact ⟨rfl, rfl⟩
    · rw [pk_un q, pk_un q]
      exact h1 e (by omega)
end
theorem cw_y44 {al op ce : Nat → Int32} {post : SY → Prop} (K : ∀ st : Nat → Int32, (∀ e, e < 20 → st e = -1) → post (al, st, op, ce)) : ∀ (n k : Nat) (st : Nat → Int32), k ≤ 20 → 20 - k < n → (∀ e, e < k → st e = -1) →
    wY_init_44 post n (nI k) al st op ce := by
  intro n
  induction n with
  | zero => intro k st _ h; omega
  | succ n ih =>
    intro k st hk hn h1
    refine pk_le 20 k (fun hle => K st (fun e he => h1 e (by omega))) (fun hlt => ⟨vp_in_nI hlt (by decide), fun a ea x ex => ?_⟩)
    rw [nI_clamp (by omega)] at ea
    rw [nI_1] at ex
    subst ea ex
    refine ih (k + 1) _ (by omega) (by omega) (fun e he => ?_)
    by_cases q : e = k
    · rw [q, pk_us]
    · rw [pk_un q]
      exact h1 e (by omega)
theorem cw_i0 {sho fo ho : Nat → Int32} {F : Nat} (h2 : 2 ≤ F) (hF : F ≤ 6) (h1 : ∀ e, e < 20 → sho e = -1 ∧ fo e = -1) (h3 : ∀ e, e < 6 → ho e = -1) :
    cw_X (fun _ => 20) (fun _ _ => 0) (nI F) 0 sho (fun _ => 0) fo (fun _ => 0) (fun _ => 0) ho (fun _ => 0) (fun _ => 0) := by
  refine ⟨F, 0, fun _ => 6, fun _ => 20, hF, by omega, rfl, rfl, fun e he => ?_, fun c hc => ?_, fun e he => ?_, fun e he => ?_, fun c hc z => ?_, fun f hf z => ?_, fun c hc _ i hi => ?_, fun c hc z => ?_, fun c hc z => ?_⟩
  · exact (h1 e he).1
  · have e : cw_cn (fun _ => 20) c 20 = 0 := (cw_cn_0 _ _ _).mpr (fun e he z => by omega)
    rw [e]
    exact ⟨rfl, fun _ => by dsimp only; omega⟩
  · exact (h1 e he).2
  · exact h3 e he
  · dsimp only at z; omega
  · dsimp only at z; omega
  · unfold cw_sv
    rw [if_pos rfl]
  · dsimp only at z; omega
  · dsimp only at z; omega
theorem cw_p0 {sh op ce : Nat → Int32} {V : Nat → Nat → Int32} : cw_P (fun _ => 20) (fun _ => 20) V sh op ce := by
  refine ⟨fun e he => Iff.rfl, fun e he z => ?_, fun e d _ _ z => ?_, fun e d _ _ z => ?_⟩
  · dsimp only at z; omega
  · dsimp only at z; omega
  · dsimp only at z; omega
theorem cw_i113 {F : Nat} (h2 : 2 ≤ F) (hF : F ≤ 6) (k0 : Int32) : wX_init_113 (fun u => wpY_init (fun v => i_Rel 1 u v) k0) (nI F) 0 0 (fun _ => 0) (fun _ => 0) (fun _ => 0) (fun _ => 0) (fun _ => 0) (fun _ => 0) (fun _ => 0) (fun _ => 0) (fun _ => 0) (fun _ => 0) (fun _ => 0) := by
  intro a ea
  refine ⟨21, cw_i125 (fun sho fo h1 => ⟨7, cw_i153 (fun ho h3 => ?_) 7 0 _ (by omega) (by omega) (fun e he => absurd he (by omega))⟩) 21 0 _ _ (by omega) (by omega) (fun e he => absurd he (by omega))⟩
  intro b eb
  rw [← ea] at eb
  subst eb
  refine ⟨21, cw_y44 (fun st h4 => ?_) 21 0 _ (by omega) (by omega) (fun e he => absurd he (by omega))⟩
  exact cw_mk (C := fun _ => 20) (S := fun _ => 20) (V := fun _ _ => 0) (fun p _ _ k _ => by dsimp only; omega) (cw_i0 h2 hF h1 h3) (fun e he => h4 e he) cw_p0
theorem i_vc0 (k0 : Int32) : wpX_init (fun u => wpY_init (fun v => i_Rel 1 u v) k0) k0 := by
  refine br_c (fun h2 => br_c (fun h6 => ?_) (fun _ => cw_i113 (F := 6) (by omega) (by omega) k0)) (fun _ => cw_i113 (F := 2) (by omega) (by omega) k0)
  have h0 : ¬ k0 < 0 := by
    rw [Int32.not_lt]
    exact Int32.le_trans (by decide) h2
  obtain ⟨F, hF, rfl⟩ := nI_of2 (M := 6) (n := 6) (by decide) h0 h6
  have h2' := (nI_leI (a := 2) (b := F) (by omega) (by omega)).mp h2
  exact cw_i113 h2' hF _
/-! checks -/
theorem cw_ix (x M : Int32) (n : Nat) (hM : M.toInt = n) : (x < 0 ∨ M < x) ∨ ∃ j : Nat, j ≤ n ∧ x = nI j := by
  by_cases h : x < 0
  · exact Or.inl (Or.inl h)
  · by_cases h2 : M < x
    · exact Or.inl (Or.inr h2)
    · exact Or.inr (nI_of2 hM h (Int32.not_lt.mp h2))
theorem cw_pk (v1 v2 : Int32) : (v1 < 0 ∨ 3 < v1 ∨ v2 < 0 ∨ 4 < v2) ∨ ∃ p k : Nat, p < 4 ∧ k < 5 ∧ v1 = nI p ∧ v2 = nI k := by
  rcases cw_ix v1 3 3 (by decide) with h | ⟨p, hp, e1⟩
  · rcases h with h | h
    · exact Or.inl (Or.inl h)
    · exact Or.inl (Or.inr (Or.inl h))
  · rcases cw_ix v2 4 4 (by decide) with h | ⟨k, hk, e2⟩
    · exact Or.inl (Or.inr (Or.inr h))
    · exact Or.inr ⟨p, k, by omega, by omega, e1, e2⟩
theorem cw_pc (v1 v2 : Int32) : (v1 < 0 ∨ 3 < v1 ∨ v2 < 0 ∨ 19 < v2) ∨ ∃ p k : Nat, p < 4 ∧ k < 20 ∧ v1 = nI p ∧ v2 = nI k := by
  rcases cw_ix v1 3 3 (by decide) with h | ⟨p, hp, e1⟩
  · rcases h with h | h
    · exact Or.inl (Or.inl h)
    · exact Or.inl (Or.inr (Or.inl h))
  · rcases cw_ix v2 19 19 (by decide) with h | ⟨k, hk, e2⟩
    · exact Or.inl (Or.inr (Or.inr h))
    · exact Or.inr ⟨p, k, by omega, by omega, e1, e2⟩
section
variable {fc hd : Int32} {al sho shr us fo sw sc ho fr tc di : Nat → Int32}
theorem cw_ckB {post : Int32 → Prop} {p0 p1 : Int32} (hb : p0 < 0 ∨ 3 < p0 ∨ p1 < 0 ∨ 4 < p1) (K : post (-1)) : wpX_check post (fc, hd, al, sho, shr, us, fo, sw, sc, ho, fr, tc, di) p0 p1 := by
  refine br_c (fun _ => K) (fun a => br_c (fun _ => K) (fun b => br_c (fun _ => K) (fun c => br_c (fun d => ?_) (fun _ => K))))
  rcases hb with h | h | h | h
  · exact absurd h a
  · exact absurd h b
  · exact absurd h c
  · exact absurd h (Int32.not_lt.mpr d)
theorem cw_ckG {post : Int32 → Prop} {p k : Nat} (hp : p < 4) (hk : k < 5) (K0 : al p = 0 → post (-2)) (K1 : ¬ al p = 0 → post 0) : wpX_check post (fc, hd, al, sho, shr, us, fo, sw, sc, ho, fr, tc, di) (nI p) (nI k) := by
  refine br_f (nI_pos (by omega)) (br_f (nI_nlt (a := 3) (by omega) (by decide)) (br_f (nI_pos (by omega)) (br_t (nI_le (b := 4) (by omega) (by decide)) ⟨vp_in_nI hp (by decide), ?_⟩)))
  rw [nI_clamp (by omega)]
  exact ⟨K0, K1⟩
end
theorem cw_bz (v : Int32) : vp_nar .boolean (lw_bz v) = lw_bz v := by
  rcases lw_bz_01 v with h | h
  · rw [h, cw_z0]
  · rw [h, cw_z1]
end
section
/-! map, unmap, isMapped, showing -/
theorem cw_XE {C : Nat → Nat} {V : Nat → Nat → Int32} {fc hd : Int32} {sho us fo sw sc ho fr di : Nat → Int32} (hX : cw_X C V fc hd sho us fo sw sc ho fr di) : cw_E 20 20 sho C := by
  obtain ⟨F, h, G, H, hF, hh, _, _, hE, _, _⟩ := hX
  exact hE
theorem cw_XU {C : Nat → Nat} {V : Nat → Nat → Int32} {fc hd : Int32} {sho us fo sw sc ho fr di : Nat → Int32} (hX : cw_X C V fc hd sho us fo sw sc ho fr di) : ∀ c, c < 20 → us c = nI (cw_cn C c 20) := by
  obtain ⟨F, h, G, H, hF, hh, _, _, hE, hU, _⟩ := hX
  exact fun c hc => (hU c hc).1
theorem cw_XI {C : Nat → Nat} {V : Nat → Nat → Int32} {fc hd : Int32} {sho us fo sw sc ho fr di : Nat → Int32} {e c : Nat} (hX : cw_X C V fc hd sho us fo sw sc ho fr di) (he : e < 20) (hC : ¬ C e < 20) (hc : c < 20) : cw_X (cw_un C e c) V fc hd (upd sho e (nI c)) (upd us c (nI (cw_cn C c 20 + 1))) fo sw sc ho fr di := by
  obtain ⟨F, h, G, H, hF, hh, e1, e2, hE, hU, hFr⟩ := hX
  exact ⟨F, h, G, H, hF, hh, e1, e2, cw_E_upd hE (cw_en_lt hc).symm, cw_U_inc hU he hC rfl, hFr⟩
theorem i_vc_map {k : Nat} {u : SX} {v : SY} (I : i_Rel k u v) (hk : k + 4 ≤ 2049) (v1 : Int32) (v2 : Int32) (v3 : Int32) : wpX_map (fun r u' => wpY_map (fun r' v' => r' = r ∧ i_Rel (k + 4) u' v') v v1 v2 (lw_bz v3)) u v1 v2 (lw_bz v3) := by
  obtain ⟨fc, hd, al, sho, shr, us, fo, sw, sc, ho, fr, tc, di⟩ := u
  obtain ⟨al', st, op, ce⟩ := v
  have I0 := I
  obtain ⟨rfl, C, S, V, hD, hX, hE, hP⟩ := I
  rcases cw_pk v1 v2 with hb | ⟨p, q, hp, hq, rfl, rfl⟩
  · unfold wpX_map
    dsimp only
    refine cw_ckB hb (br_f (by decide) ?_)
    unfold wpY_map
    dsimp only
    exact cw_yB hb ⟨rfl, I0⟩
  · have he : 5 * p + q < 20 := by omega
    have kp : (nI p).toNatClampNeg = p := nI_clamp (by omega)
    have ke : (nI (5 * p + q)).toNatClampNeg = 5 * p + q := nI_clamp (by omega)
    have hEx := cw_XE hX
    unfold wpX_map
    dsimp only
    refine cw_ckG hp hq (fun ha => br_f (by decide) ?_) (fun ha => br_t rfl (fun x ex => ?_))
    · unfold wpY_map
      dsimp only
      refine cw_yG hp hq ⟨vp_in_nI hp (by decide), ?_⟩
      rw [kp]
      exact br_t ha ⟨rfl, I0⟩
    · rw [cw_x5] at ex
      subst ex
      rw [ke, hEx _ he, cw_bz]
      refine ⟨vp_in_nI he (by decide), br_c (fun h0 => ?_) (fun h0 => ?_)⟩
      · have hC : ¬ C (5 * p + q) < 20 := (cw_en_ng (by decide)).mp h0
        have hS : ¬ S (5 * p + q) < 20 := fun z => hC ((hP.1 _ he).mpr z)
        obtain ⟨c, hc, hf, W⟩ := cw_mp (al := al) (shr := shr) (tc := tc) hX he hC
        obtain ⟨s, hs, hsf, Y⟩ := cw_yn (al := al) (op := op) (ce := ce) hE he hS
        refine W _ (fun us' fo' sw' V' hX' hV' hV0 => ?_)
        dsimp only
        rw [(cw_by c (by omega)).2]
        refine ⟨vp_in_nI he (by decide), fun a ea => ⟨vp_in_nI he (by decide), fun b eb => ?_⟩⟩
        subst ea eb
        unfold wpY_map
        dsimp only
        refine cw_yG hp hq ⟨vp_in_nI hp (by decide), ?_⟩
        rw [kp, cw_x5, ke, hE _ he]
        refine br_f ha ⟨vp_in_nI he (by decide), br_t ((cw_en_ng (by decide)).mpr hS) (Y _ ⟨5, cw_ym55 hp hq hs 5 0 ce (by omega) (by omega) (fun ce' h1 h2 => ⟨rfl, ?_⟩)⟩)⟩
        refine cw_mk (cw_D_set hD hq ha) hX' (cw_E_upd hE (cw_en_lt hs).symm) ?_
        rw [cw_bz]
        refine cw_P_set hP hc hs ?_ ?_ (fun d hd => pk_un hd) (fun d hd => pk_un hd) (fun d hd hn hl i hi => hV' _ (hf d hd) i) (fun d hd hn hl i hi => h2 _ (by have := hsf d hd; omega)) (fun i hi => by rw [hV0, h1 i (by omega) hi]) (fun d hd hn z => absurd z (hf d hd)) (fun d hd hn hl => ⟨fun z => absurd z (hsf d hd), fun z => absurd z.1 (hf d hd)⟩)
        · rw [pk_us]
          exact lw_bz_01 v3
        · rw [pk_us, pk_us]
      · have hC : C (5 * p + q) < 20 := Classical.byContradiction (fun z => h0 ((cw_en_ng (by decide)).mpr z))
        have hS : S (5 * p + q) < 20 := (hP.1 _ he).mp hC
        unfold wpY_map
        dsimp only
        refine cw_yG hp hq ⟨vp_in_nI hp (by decide), ?_⟩
        rw [kp, cw_x5, ke, hE _ he]
        exact br_f ha ⟨vp_in_nI he (by decide), br_f (fun z => (cw_en_ng (by decide)).mp z hS) ⟨rfl, I0⟩⟩
theorem i_vc_unmap {k : Nat} {u : SX} {v : SY} (I : i_Rel k u v) (hk : k + 4 ≤ 2049) (v1 : Int32) (v2 : Int32) : wpX_unmap (fun r u' => wpY_unmap (fun r' v' => r' = r ∧ i_Rel (k + 4) u' v') v v1 v2) u v1 v2 := by
  obtain ⟨fc, hd, al, sho, shr, us, fo, sw, sc, ho, fr, tc, di⟩ := u
  obtain ⟨al', st, op, ce⟩ := v
  have I0 := I
  obtain ⟨rfl, C, S, V, hD, hX, hE, hP⟩ := I
  rcases cw_pk v1 v2 with hb | ⟨p, q, hp, hq, rfl, rfl⟩
  · unfold wpX_unmap
    dsimp only
    refine cw_ckB hb (br_f (by decide) ?_)
    unfold wpY_unmap
    dsimp only
    exact cw_yB hb ⟨rfl, I0⟩
  · have he : 5 * p + q < 20 := by omega
    have kp : (nI p).toNatClampNeg = p := nI_clamp (by omega)
    have ke : (nI (5 * p + q)).toNatClampNeg = 5 * p + q := nI_clamp (by omega)
    have hEx := cw_XE hX
    unfold wpX_unmap
    dsimp only
    refine cw_ckG hp hq (fun ha => br_f (by decide) ?_) (fun ha => br_t rfl (fun x ex => ?_))
    · unfold wpY_unmap
      dsimp only
      refine cw_yG hp hq ⟨vp_in_nI hp (by decide), ?_⟩
      rw [kp]
      exact br_t ha ⟨rfl, I0⟩
    · rw [cw_x5] at ex
      subst ex
      rw [ke, hEx _ he]
      refine ⟨vp_in_nI he (by decide), br_c (fun h0 => ?_) (fun h0 => ?_)⟩
      · have hC : C (5 * p + q) < 20 := (cw_en_nn (by decide)).mp h0
        have hS : S (5 * p + q) < 20 := (hP.1 _ he).mp hC
        refine cw_rl hX he rfl hC (fun V' us' fo' ho' hX' hV' => ?_)
        dsimp only
        unfold wpY_unmap
        dsimp only
        refine cw_yG hp hq ⟨vp_in_nI hp (by decide), ?_⟩
        rw [kp, cw_x5, ke, hE _ he]
        refine br_f ha ⟨vp_in_nI he (by decide), br_t ((cw_en_nn (by decide)).mpr hS) ⟨vp_in_nI he (by decide), fun a ea => ?_⟩⟩
        subst ea
        exact ⟨rfl, cw_mk (cw_D_set hD hq ha) hX' (cw_E_upd hE (cw_en_ge (by omega)).symm) (cw_P_clr hP (fun d hd hn hl i hi => hV' (C d) hl (cw_cn_pos hd (cw_ud hn)) i hi))⟩
      · have hC : ¬ C (5 * p + q) < 20 := fun z => h0 ((cw_en_nn (by decide)).mpr z)
        have hS : ¬ S (5 * p + q) < 20 := fun z => hC ((hP.1 _ he).mpr z)
        unfold wpY_unmap
        dsimp only
        refine cw_yG hp hq ⟨vp_in_nI hp (by decide), ?_⟩
        rw [kp, cw_x5, ke, hE _ he]
        exact br_f ha ⟨vp_in_nI he (by decide), br_f (fun z => hS ((cw_en_nn (by decide)).mp z)) ⟨rfl, I0⟩⟩
theorem i_vc_isMapped {k : Nat} {u : SX} {v : SY} (I : i_Rel k u v) (hk : k + 4 ≤ 2049) (v1 : Int32) (v2 : Int32) : wpX_isMapped (fun r => wpY_isMapped (fun r' => r' = r ∧ i_Rel (k + 4) u v) v v1 v2) u v1 v2 := by
  obtain ⟨fc, hd, al, sho, shr, us, fo, sw, sc, ho, fr, tc, di⟩ := u
  obtain ⟨al', st, op, ce⟩ := v
  have I0 := I
  obtain ⟨rfl, C, S, V, hD, hX, hE, hP⟩ := I
  rcases cw_pk v1 v2 with hb | ⟨p, q, hp, hq, rfl, rfl⟩
  · unfold wpX_isMapped
    dsimp only
    refine cw_ckB hb (br_f (by decide) ?_)
    unfold wpY_isMapped
    dsimp only
    exact cw_yB hb ⟨rfl, I0⟩
  · have he : 5 * p + q < 20 := by omega
    have ke : (nI (5 * p + q)).toNatClampNeg = 5 * p + q := nI_clamp (by omega)
    have hEx := cw_XE hX
    unfold wpX_isMapped
    dsimp only
    refine cw_ckG hp hq (fun ha => br_f (by decide) ?_) (fun ha => br_t rfl ?_)
    · have hC := hD p hp ha q hq
      have hS : ¬ S (5 * p + q) < 20 := fun z => hC ((hP.1 _ he).mpr z)
      unfold wpY_isMapped
      dsimp only
      refine cw_yG hp hq ?_
      rw [cw_x5, ke, hE _ he]
      exact ⟨vp_in_nI he (by decide), br_t ((cw_en_ng (by decide)).mpr hS) ⟨rfl, I0⟩⟩
    · rw [cw_x5, ke, hEx _ he]
      refine ⟨vp_in_nI he (by decide), br_c (fun h0 => ?_) (fun h0 => ?_)⟩
      · have hC : ¬ C (5 * p + q) < 20 := (cw_en_ng (by decide)).mp h0
        have hS : ¬ S (5 * p + q) < 20 := fun z => hC ((hP.1 _ he).mpr z)
        unfold wpY_isMapped
        dsimp only
        refine cw_yG hp hq ?_
        rw [cw_x5, ke, hE _ he]
        exact ⟨vp_in_nI he (by decide), br_t ((cw_en_ng (by decide)).mpr hS) ⟨rfl, I0⟩⟩
      · have hC : C (5 * p + q) < 20 := Classical.byContradiction (fun z => h0 ((cw_en_ng (by decide)).mpr z))
        have hS : S (5 * p + q) < 20 := (hP.1 _ he).mp hC
        unfold wpY_isMapped
        dsimp only
        refine cw_yG hp hq ?_
        rw [cw_x5, ke, hE _ he]
        exact ⟨vp_in_nI he (by decide), br_f (fun z => (cw_en_ng (by decide)).mp z hS) ⟨rfl, I0⟩⟩
theorem i_vc_showing {k : Nat} {u : SX} {v : SY} (I : i_Rel k u v) (hk : k + 4 ≤ 2049) (v1 : Int32) (v2 : Int32) : wpX_showing (fun r => wpY_showing (fun r' => r' = r ∧ i_Rel (k + 4) u v) v v1 v2) u v1 v2 := by
  obtain ⟨fc, hd, al, sho, shr, us, fo, sw, sc, ho, fr, tc, di⟩ := u
  obtain ⟨al', st, op, ce⟩ := v
  have I0 := I
  obtain ⟨rfl, C, S, V, hD, hX, hE, hP⟩ := I
  rcases cw_pk v1 v2 with hb | ⟨p, q, hp, hq, rfl, rfl⟩
  · unfold wpX_showing
    dsimp only
    refine cw_ckB hb (br_f (by decide) ?_)
    unfold wpY_showing
    dsimp only
    exact cw_yB hb ⟨rfl, I0⟩
  · have he : 5 * p + q < 20 := by omega
    have kp : (nI p).toNatClampNeg = p := nI_clamp (by omega)
    have ke : (nI (5 * p + q)).toNatClampNeg = 5 * p + q := nI_clamp (by omega)
    have hEx := cw_XE hX
    unfold wpX_showing
    dsimp only
    refine cw_ckG hp hq (fun ha => br_f (by decide) ?_) (fun ha => br_t rfl (fun x ex => ?_))
    · unfold wpY_showing
      dsimp only
      refine cw_yG hp hq ⟨vp_in_nI hp (by decide), ?_⟩
      rw [kp]
      exact br_t ha ⟨rfl, I0⟩
    · rw [cw_x5] at ex
      subst ex
      rw [ke, hEx _ he]
      refine ⟨vp_in_nI he (by decide), br_c (fun h0 => ?_) (fun h0 => ?_)⟩
      · have hC : C (5 * p + q) < 20 := (cw_en_nn (by decide)).mp h0
        have hS : S (5 * p + q) < 20 := (hP.1 _ he).mp hC
        have hN := cw_P_cnt hP he hC
        have Y : ∀ r : Int32, nI (cw_cn S (S (5 * p + q)) 20) = r → wpY_showing (fun r' => r' = r ∧ i_Rel (k + 4) (fc, hd, al, sho, shr, us, fo, sw, sc, ho, fr, tc, di) (al, st, op, ce)) (al, st, op, ce) (nI p) (nI q) := by
          intro r hr
          unfold wpY_showing
          dsimp only
          refine cw_yG hp hq ⟨vp_in_nI hp (by decide), ?_⟩
          rw [kp, cw_x5, ke, hE _ he]
          exact br_f ha ⟨vp_in_nI he (by decide), br_t ((cw_en_nn (by decide)).mpr hS) ⟨21, cw_ys51 hE hp hq hS rfl ⟨hr, I0⟩ 21 0 (by omega) (by omega)⟩⟩
        rw [cw_en_lt hC, nI_clamp (by omega), cw_XU hX _ hC]
        refine ⟨vp_in_nI he (by decide), br_c (fun h1 => Y _ ?_) (fun h1 => ⟨vp_in_nI he (by decide), vp_in_nI hC (by decide), Y _ ?_⟩)⟩
        · rw [hN, if_pos h1]
          rfl
        · rw [hN, if_neg h1]
      · have hC : ¬ C (5 * p + q) < 20 := fun z => h0 ((cw_en_nn (by decide)).mpr z)
        have hS : ¬ S (5 * p + q) < 20 := fun z => hC ((hP.1 _ he).mpr z)
        unfold wpY_showing
        dsimp only
        refine cw_yG hp hq ⟨vp_in_nI hp (by decide), ?_⟩
        rw [kp, cw_x5, ke, hE _ he]
        exact br_f ha ⟨vp_in_nI he (by decide), br_f (fun z => hS ((cw_en_nn (by decide)).mp z)) ⟨rfl, I0⟩⟩
end
section
/-! attach, read, write -/
section
variable {fc hd : Int32} {al sho shr us fo sw sc ho fr tc di st op ce : Nat → Int32}
theorem cw_n8 {a : Nat} (ha : a < 2 ^ 31) : nI a >>> ((3 : Int32) &&& 31) = nI (a / 8) ∧ nI a &&& 7 = nI (a % 8) ∧ nI a / 8 = nI (a / 8) ∧ nI a - nI a / 8 * 8 = nI (a % 8) :=
  ⟨pk_shrN ha _ 3 (by decide), pk_andN (by omega) 3 (by decide), pk_div (d := 8) ha (by decide) (by decide), pk_rem (d := 8) ha (by decide) (by decide)⟩
theorem cw_n4 {a : Nat} (ha : a < 2 ^ 31) : nI a >>> ((2 : Int32) &&& 31) = nI (a / 4) ∧ nI a &&& 3 = nI (a % 4) ∧ nI a / 4 = nI (a / 4) ∧ nI a - nI a / 4 * 4 = nI (a % 4) :=
  ⟨pk_shrN ha _ 2 (by decide), pk_andN (by omega) 2 (by decide), pk_div (d := 4) ha (by decide) (by decide), pk_rem (d := 4) ha (by decide) (by decide)⟩
theorem cw_yaB {post : Int32 → SY → Prop} {a b : Nat} (ha : a < 2 ^ 31) (hb : b < 2 ^ 31) (hbad : ¬ (a / 8 < 4 ∧ b / 8 < 4 ∧ a % 8 < 5 ∧ b % 8 < 5)) (K : post (-1) (al, st, op, ce)) : wpY_attach post (al, st, op, ce) (nI a) (nI b) := by
  unfold wpY_attach
  dsimp only
  rw [(cw_n8 ha).2.2.2, (cw_n8 hb).2.2.2]
  refine br_f (nI_pos ha) (br_f (nI_pos hb) (pk_lt 28 a (fun _ => K) (fun h1 => pk_lt 28 b (fun _ => K) (fun h2 => ⟨by decide, pk_lt 4 (a % 8) (fun _ => K) (fun h3 => ⟨by decide, pk_le (b % 8) 4 (fun h4 => ?_) (fun _ => K)⟩)⟩))))
  omega
theorem cw_yaG {post : Int32 → SY → Prop} {a b : Nat} (ha : a < 2 ^ 31) (hb : b < 2 ^ 31) (hp : a / 8 < 4) (hq : b / 8 < 4) (hk : a % 8 < 5) (hm : b % 8 < 5)
    (K : (al (a / 8) = 0 → post (-2) (al, st, op, ce)) ∧ (¬ al (a / 8) = 0 → ((al (b / 8) = 0 → post (-2) (al, st, op, ce)) ∧ (¬ al (b / 8) = 0 → ((st (5 * (a / 8) + a % 8) < 0 → ((st (5 * (b / 8) + b % 8) < 0 → post (-3) (al, st, op, ce)) ∧ (¬ st (5 * (b / 8) + b % 8) < 0 →
      ((op (5 * (b / 8) + b % 8) = 0 → post (-3) (al, st, op, ce)) ∧ (¬ op (5 * (b / 8) + b % 8) = 0 → post (nI (a % 8)) (al, upd st (5 * (a / 8) + a % 8) (st (5 * (b / 8) + b % 8)), upd op (5 * (a / 8) + a % 8) 1, ce)))))) ∧ (¬ st (5 * (a / 8) + a % 8) < 0 → post (-4) (al, st, op, ce))))))) :
    wpY_attach post (al, st, op, ce) (nI a) (nI b) := by
  have k1 : (nI (a / 8)).toNatClampNeg = a / 8 := nI_clamp (by omega)
  have k2 : (nI (b / 8)).toNatClampNeg = b / 8 := nI_clamp (by omega)
  have k3 : (nI (5 * (a / 8) + a % 8)).toNatClampNeg = 5 * (a / 8) + a % 8 := nI_clamp (by omega)
  have k4 : (nI (5 * (b / 8) + b % 8)).toNatClampNeg = 5 * (b / 8) + b % 8 := nI_clamp (by omega)
  have i3 : vp_in (nI (5 * (a / 8) + a % 8)) 20 := vp_in_nI (by omega) (by decide)
  have i4 : vp_in (nI (5 * (b / 8) + b % 8)) 20 := vp_in_nI (by omega) (by decide)
  have d8 : ¬ (8 : Int32) = 0 := by decide
  unfold wpY_attach
  dsimp only
  rw [(cw_n8 ha).2.2.2, (cw_n8 hb).2.2.2, (cw_n8 ha).2.2.1, (cw_n8 hb).2.2.1, cw_x5, cw_x5, k1, k2, cw_z1]
  refine br_f (nI_pos ha) (br_f (nI_pos hb) (br_f (nI_nlt (a := 28) (by omega) (by decide)) (br_f (nI_nlt (a := 28) (by omega) (by decide)) ⟨d8, br_f (nI_nlt (a := 4) (by omega) (by decide)) ⟨d8, br_t (nI_le (b := 4) (by omega) (by decide)) ⟨d8, d8, fun x ex => ⟨d8, d8, fun y ey => ⟨d8, vp_in_nI hp (by decide), ?_⟩⟩⟩⟩⟩)))
  subst ex ey
  rw [k3, k4]
  refine ⟨K.1, fun h1 => ⟨d8, vp_in_nI hq (by decide), (K.2 h1).1, fun h2 => ⟨i3, fun h3 => ⟨i4, (((K.2 h1).2 h2).1 h3).1, fun h4 => ⟨i4, ((((K.2 h1).2 h2).1 h3).2 h4).1, fun h5 => ⟨i4, i3, fun s es => ⟨i3, fun t et => ⟨d8, ?_⟩⟩⟩⟩⟩, ((K.2 h1).2 h2).2⟩⟩⟩
  subst es et
  exact ((((K.2 h1).2 h2).1 h3).2 h4).2 h5
theorem cw_xaB {post : Int32 → SX → Prop} {a b : Nat} (ha : a < 2 ^ 31) (hb : b < 2 ^ 31) (hbad : ¬ (a / 8 < 4 ∧ b / 8 < 4 ∧ a % 8 < 5 ∧ b % 8 < 5)) (K : post (-1) (fc, hd, al, sho, shr, us, fo, sw, sc, ho, fr, tc, di)) : wpX_attach post (fc, hd, al, sho, shr, us, fo, sw, sc, ho, fr, tc, di) (nI a) (nI b) := by
  unfold wpX_attach
  dsimp only
  rw [(cw_n8 ha).1, (cw_n8 hb).1, (cw_n8 ha).2.1, (cw_n8 hb).2.1]
  refine br_f (nI_pos ha) (br_t (nI_pos' hb) (fun x ex y ey => ?_))
  subst ex ey
  refine pk_lt 3 (a / 8) (fun _ => K) (fun h1 => pk_lt 3 (b / 8) (fun _ => K) (fun h2 => pk_lt 4 (a % 8) (fun _ => K) (fun h3 => pk_le (b % 8) 4 (fun h4 => ?_) (fun _ => K))))
  omega
theorem cw_xaG {post : Int32 → SX → Prop} {a b : Nat} {C : Nat → Nat} (hE : cw_E 20 20 sho C) (hU : ∀ c, c < 20 → us c = nI (cw_cn C c 20)) (ha : a < 2 ^ 31) (hb : b < 2 ^ 31) (hp : a / 8 < 4) (hq : b / 8 < 4) (hk : a % 8 < 5) (hm : b % 8 < 5)
    (K : (al (a / 8) = 0 → post (-2) (fc, hd, al, sho, shr, us, fo, sw, sc, ho, fr, tc, di)) ∧ (¬ al (a / 8) = 0 → ((al (b / 8) = 0 → post (-2) (fc, hd, al, sho, shr, us, fo, sw, sc, ho, fr, tc, di)) ∧ (¬ al (b / 8) = 0 → ((sho (5 * (a / 8) + a % 8) < 0 → ((sho (5 * (b / 8) + b % 8) < 0 → post (-3) (fc, hd, al, sho, shr, us, fo, sw, sc, ho, fr, tc, di)) ∧ (¬ sho (5 * (b / 8) + b % 8) < 0 →
      ((shr (5 * (b / 8) + b % 8) = 0 → post (-3) (fc, hd, al, sho, shr, us, fo, sw, sc, ho, fr, tc, di)) ∧ (¬ shr (5 * (b / 8) + b % 8) = 0 → ∀ c, c < 20 → C (5 * (b / 8) + b % 8) = c → post (nI (a % 8)) (fc, hd, al, upd sho (5 * (a / 8) + a % 8) (nI c), upd shr (5 * (a / 8) + a % 8) 1, upd us c (nI (cw_cn C c 20 + 1)), fo, sw, sc, ho, fr, tc, di)))))) ∧ (¬ sho (5 * (a / 8) + a % 8) < 0 → post (-4) (fc, hd, al, sho, shr, us, fo, sw, sc, ho, fr, tc, di))))))) :
    wpX_attach post (fc, hd, al, sho, shr, us, fo, sw, sc, ho, fr, tc, di) (nI a) (nI b) := by
  have k1 : (nI (a / 8)).toNatClampNeg = a / 8 := nI_clamp (by omega)
  have k2 : (nI (b / 8)).toNatClampNeg = b / 8 := nI_clamp (by omega)
  have k3 : (nI (5 * (a / 8) + a % 8)).toNatClampNeg = 5 * (a / 8) + a % 8 := nI_clamp (by omega)
  have k4 : (nI (5 * (b / 8) + b % 8)).toNatClampNeg = 5 * (b / 8) + b % 8 := nI_clamp (by omega)
  have i3 : vp_in (nI (5 * (a / 8) + a % 8)) 20 := vp_in_nI (by omega) (by decide)
  have i4 : vp_in (nI (5 * (b / 8) + b % 8)) 20 := vp_in_nI (by omega) (by decide)
  unfold wpX_attach
  dsimp only
  rw [(cw_n8 ha).1, (cw_n8 hb).1, (cw_n8 ha).2.1, (cw_n8 hb).2.1]
  refine br_f (nI_pos ha) (br_t (nI_pos' hb) (fun x ex y ey => ?_))
  subst ex ey
  rw [cw_x5, cw_x5, k1, k2, cw_z1]
  refine br_f (nI_nlt (a := 3) (by omega) (by decide)) (br_f (nI_nlt (a := 3) (by omega) (by decide)) (br_f (nI_nlt (a := 4) (by omega) (by decide)) (br_t (nI_le (b := 4) (by omega) (by decide)) ⟨vp_in_nI hp (by decide), K.1, fun h1 => ⟨vp_in_nI hq (by decide), (K.2 h1).1, fun h2 x ex y ey => ?_⟩⟩)))
  subst ex ey
  rw [k3, k4]
  refine ⟨i3, fun h3 => ⟨i4, (((K.2 h1).2 h2).1 h3).1, fun h4 => ⟨i4, ((((K.2 h1).2 h2).1 h3).2 h4).1, fun h5 => ⟨i4, i3, fun s es => ⟨i3, ?_⟩⟩⟩⟩, ((K.2 h1).2 h2).2⟩
  have hC : C (5 * (b / 8) + b % 8) < 20 := by
    refine Classical.byContradiction (fun z => h4 ?_)
    rw [hE _ (by omega)]
    exact (cw_en_ng (by decide)).mpr z
  have hb := cw_cn_le C (C (5 * (b / 8) + b % 8)) 20
  rw [hE (5 * (b / 8) + b % 8) (by omega), cw_en_lt hC, (cw_by _ (by omega)).1] at es
  subst es
  rw [pk_us, nI_clamp (by omega), hU _ hC, nI_1, (cw_by _ (by omega)).2]
  refine ⟨vp_in_nI hC (by decide), vp_in_nI hC (by decide), fun t et => ⟨i3, fun w ew => ?_⟩⟩
  subst et ew
  exact ((((K.2 h1).2 h2).1 h3).2 h4).2 h5 _ hC rfl
end
theorem i_vc_attach {k : Nat} {u : SX} {v : SY} (I : i_Rel k u v) (hk : k + 4 ≤ 2049) (v1 : Int32) (v2 : Int32) : wpX_attach (fun r u' => wpY_attach (fun r' v' => r' = r ∧ i_Rel (k + 4) u' v') v v1 v2) u v1 v2 := by
  obtain ⟨fc, hd, al, sho, shr, us, fo, sw, sc, ho, fr, tc, di⟩ := u
  obtain ⟨al', st, op, ce⟩ := v
  have I0 := I
  obtain ⟨rfl, C, S, V, hD, hX, hE, hP⟩ := I
  by_cases h1 : v1 < 0
  · exact br_t h1 (br_t h1 ⟨rfl, I0⟩)
  · by_cases h2 : v2 < 0
    · exact br_f h1 (br_f (fun z => Int32.not_lt.mpr z h2) (br_f h1 (br_t h2 ⟨rfl, I0⟩)))
    · obtain ⟨a, ha, rfl⟩ := nI_of h1
      obtain ⟨b, hb, rfl⟩ := nI_of h2
      by_cases hg : a / 8 < 4 ∧ b / 8 < 4 ∧ a % 8 < 5 ∧ b % 8 < 5
      · obtain ⟨hp, hq, hk', hm⟩ := hg
        have he : 5 * (a / 8) + a % 8 < 20 := by omega
        have hf : 5 * (b / 8) + b % 8 < 20 := by omega
        have hEx := cw_XE hX
        refine cw_xaG hEx (cw_XU hX) ha hb hp hq hk' hm ⟨fun z => cw_yaG ha hb hp hq hk' hm (br_t z ⟨rfl, I0⟩), fun z => ⟨fun y => cw_yaG ha hb hp hq hk' hm (br_f z (br_t y ⟨rfl, I0⟩)), fun y => ⟨fun x => ⟨fun w => ?_, fun w => ⟨fun t => ?_, fun t c hc hCc => ?_⟩⟩, fun x => ?_⟩⟩⟩
        · rw [hEx _ he] at x
          rw [hEx _ hf] at w
          have hS1 : ¬ S (5 * (a / 8) + a % 8) < 20 := fun q => (cw_en_ng (by decide)).mp x ((hP.1 _ he).mpr q)
          have hS2 : ¬ S (5 * (b / 8) + b % 8) < 20 := fun q => (cw_en_ng (by decide)).mp w ((hP.1 _ hf).mpr q)
          refine cw_yaG ha hb hp hq hk' hm (br_f z (br_f y (br_t ?_ (br_t ?_ ⟨rfl, I0⟩))))
          · rw [hE _ he]
            exact (cw_en_ng (by decide)).mpr hS1
          · rw [hE _ hf]
            exact (cw_en_ng (by decide)).mpr hS2
        · rw [hEx _ he] at x
          rw [hEx _ hf] at w
          have hC2 : C (5 * (b / 8) + b % 8) < 20 := Classical.byContradiction (fun q => w ((cw_en_ng (by decide)).mpr q))
          have hS1 : ¬ S (5 * (a / 8) + a % 8) < 20 := fun q => (cw_en_ng (by decide)).mp x ((hP.1 _ he).mpr q)
          have hS2 : S (5 * (b / 8) + b % 8) < 20 := (hP.1 _ hf).mp hC2
          refine cw_yaG ha hb hp hq hk' hm (br_f z (br_f y (br_t ?_ (br_f ?_ (br_t ?_ ⟨rfl, I0⟩)))))
          · rw [hE _ he]
            exact (cw_en_ng (by decide)).mpr hS1
          · rw [hE _ hf]
            exact fun q => (cw_en_ng (by decide)).mp q hS2
          · rw [(hP.2.1 _ hf hC2).2.1]
            exact t
        · rw [hEx _ he] at x
          rw [hEx _ hf] at w
          have hC1 := (cw_en_ng (by decide)).mp x
          have hC2 : C (5 * (b / 8) + b % 8) < 20 := Classical.byContradiction (fun q => w ((cw_en_ng (by decide)).mpr q))
          have hS1 : ¬ S (5 * (a / 8) + a % 8) < 20 := fun q => hC1 ((hP.1 _ he).mpr q)
          have hS2 : S (5 * (b / 8) + b % 8) < 20 := (hP.1 _ hf).mp hC2
          have h1' : shr (5 * (b / 8) + b % 8) = 1 := (hP.2.1 _ hf hC2).1.elim (fun q => absurd q t) (fun q => q)
          refine cw_yaG ha hb hp hq hk' hm (br_f z (br_f y (br_t ?_ (br_f ?_ (br_f ?_ ⟨rfl, ?_⟩)))))
          · rw [hE _ he]
            exact (cw_en_ng (by decide)).mpr hS1
          · rw [hE _ hf]
            exact fun q => (cw_en_ng (by decide)).mp q hS2
          · rw [(hP.2.1 _ hf hC2).2.1]
            exact t
          · refine cw_mk (cw_D_set hD hk' z) (cw_XI hX he hC1 hc) (cw_E_upd hE (hE _ hf)) ?_
            refine cw_P_set hP hc hS2 (Or.inr pk_us) (by rw [pk_us, pk_us]) (fun d hd => pk_un hd) (fun d hd => pk_un hd) (fun d hd hn hl i hi => rfl) (fun d hd hn hl i hi => rfl) (fun i hi => ?_) (fun d hd hn q => ?_) (fun d hd hn hl => ?_)
            · rw [← hCc]
              exact (hP.2.1 _ hf hC2).2.2 i hi
            · rw [pk_us, ← h1']
              exact hP.2.2.1 _ d hf hd hC2 (q.trans hCc.symm)
            · rw [pk_us]
              constructor
              · intro q
                rcases (hP.2.2.2 _ d hf hd hC2 hl).mp q with r | r
                · rw [r]
                  exact ⟨hCc, rfl⟩
                · exact ⟨r.1.trans hCc, rfl⟩
              · intro q
                exact (hP.2.2.2 _ d hf hd hC2 hl).mpr (Or.inr ⟨q.1.trans hCc.symm, h1'⟩)
        · rw [hEx _ he] at x
          have hC1 : C (5 * (a / 8) + a % 8) < 20 := Classical.byContradiction (fun q => x ((cw_en_ng (by decide)).mpr q))
          have hS1 : S (5 * (a / 8) + a % 8) < 20 := (hP.1 _ he).mp hC1
          refine cw_yaG ha hb hp hq hk' hm (br_f z (br_f y (br_f ?_ ⟨rfl, I0⟩)))
          rw [hE _ he]
          exact fun q => (cw_en_ng (by decide)).mp q hS1
      · exact cw_xaB ha hb hg (cw_yaB ha hb hg ⟨rfl, I0⟩)
theorem i_vc_read {k : Nat} {u : SX} {v : SY} (I : i_Rel k u v) (hk : k + 4 ≤ 2049) (v1 : Int32) (v2 : Int32) : wpX_read (fun r u' => wpY_read (fun r' => r' = r ∧ i_Rel (k + 4) u' v) v v1 v2) u v1 v2 := by
  obtain ⟨fc, hd, al, sho, shr, us, fo, sw, sc, ho, fr, tc, di⟩ := u
  obtain ⟨al', st, op, ce⟩ := v
  have I0 := I
  obtain ⟨rfl, C, S, V, hD, hX, hE, hP⟩ := I
  rcases cw_pc v1 v2 with hb | ⟨p, q, hp, hq, rfl, rfl⟩
  · have Y : wpY_read (fun r' => r' = 0 ∧ i_Rel (k + 4) (fc, hd, al, sho, shr, us, fo, sw, sc, ho, fr, tc, di) (al, st, op, ce)) (al, st, op, ce) v1 v2 := by
      have I1 : (0 : Int32) = 0 ∧ i_Rel (k + 4) (fc, hd, al, sho, shr, us, fo, sw, sc, ho, fr, tc, di) (al, st, op, ce) := ⟨rfl, I0⟩
      refine br_c (fun _ => br_t rfl I1) (fun a => br_c (fun _ => br_t rfl I1) (fun b => br_f (by decide) (br_c (fun _ => I1) (fun c => br_c (fun _ => I1) (fun d => ?_)))))
      rcases hb with h | h | h | h
      · exact absurd h a
      · exact absurd h b
      · exact absurd h c
      · exact absurd h d
    refine br_c (fun _ => Y) (fun a => br_c (fun _ => Y) (fun b => br_c (fun _ => Y) (fun c => br_c (fun _ => Y) (fun d => ?_))))
    rcases hb with h | h | h | h
    · exact absurd h a
    · exact absurd h b
    · exact absurd h c
    · exact absurd h d
  · have he : 5 * p + q / 4 < 20 := by omega
    have kp : (nI p).toNatClampNeg = p := nI_clamp (by omega)
    have ke : (nI (5 * p + q / 4)).toNatClampNeg = 5 * p + q / 4 := nI_clamp (by omega)
    have hEx := cw_XE hX
    have d4 : ¬ (4 : Int32) = 0 := by decide
    have n4 := cw_n4 (a := q) (by omega)
    have Y0 : ¬ C (5 * p + q / 4) < 20 → wpY_read (fun r' => r' = 0 ∧ i_Rel (k + 4) (fc, hd, al, sho, shr, us, fo, sw, sc, ho, fr, tc, di) (al, st, op, ce)) (al, st, op, ce) (nI p) (nI q) := by
      intro hC
      have hS : ¬ S (5 * p + q / 4) < 20 := fun z => hC ((hP.1 _ he).mpr z)
      unfold wpY_read
      dsimp only
      rw [n4.2.2.2, n4.2.2.1, cw_x5, ke, hE _ he]
      exact cw_yPG hp (br_f (nI_pos (by omega)) (br_f (nI_nlt (a := 19) (by omega) (by decide)) ⟨d4, vp_in_nI he (by decide), br_f (fun z => hS ((cw_en_nn (by decide)).mp z)) ⟨rfl, I0⟩⟩))
    unfold wpX_read
    dsimp only
    rw [n4.1, n4.2.1, kp]
    refine br_f (nI_pos (by omega)) (br_f (nI_nlt (a := 3) (by omega) (by decide)) (br_f (nI_pos (by omega)) (br_f (nI_nlt (a := 19) (by omega) (by decide)) ⟨vp_in_nI hp (by decide), br_c (fun ha => Y0 (hD p hp ha (q / 4) (by omega))) (fun ha x ex => ?_)⟩)))
    rw [cw_x5] at ex
    subst ex
    rw [ke, hEx _ he]
    refine ⟨vp_in_nI he (by decide), br_c (fun h0 => ⟨vp_in_nI he (by decide), ?_⟩) (fun h0 => Y0 (fun z => h0 ((cw_en_nn (by decide)).mpr z)))⟩
    have hC : C (5 * p + q / 4) < 20 := (cw_en_nn (by decide)).mp h0
    have hS : S (5 * p + q / 4) < 20 := (hP.1 _ he).mp hC
    rw [cw_en_lt hC]
    refine cw_br hX he rfl hC (fun f F h G H fo' sw' sc' ho' fr' tc' di' hF hh efc hf hG hU hFr => ?_)
    dsimp only
    rw [cw_x4, nI_clamp (by omega)]
    refine ⟨vp_in_nI (by omega) (by decide), ?_⟩
    unfold wpY_read
    dsimp only
    rw [n4.2.2.2, n4.2.2.1, cw_x5, ke, hE _ he, cw_en_lt hS, cw_x4, nI_clamp (by omega)]
    refine cw_yPG hp (br_f (nI_pos (by omega)) (br_f (nI_nlt (a := 19) (by omega) (by decide)) ⟨d4, vp_in_nI he (by decide), br_t (nI_pos' (by omega)) ⟨d4, vp_in_nI he (by decide), d4, vp_in_nI (by omega) (by decide), ?_, ?_⟩⟩))
    · rw [← (hP.2.1 _ he hC).2.2 (q % 4) (by omega), hFr.2.2.2.2.2.1 _ hC (by omega) (q % 4) (by omega), hG]
    · exact cw_mk hD ⟨F, h, G, H, hF, hh, efc, rfl, hEx, hU, hFr⟩ hE hP
theorem cw_un_self (f : Nat → Nat) (k : Nat) : cw_un f k (f k) = f := by
  funext j
  by_cases h : j = k
  · rw [h, cw_us]
  · rw [cw_ud h]
theorem i_vc_write {k : Nat} {u : SX} {v : SY} (I : i_Rel k u v) (hk : k + 4 ≤ 2049) (v1 : Int32) (v2 : Int32) (v3 : Int32) : wpX_write (fun r u' => wpY_write (fun r' v' => r' = r ∧ i_Rel (k + 4) u' v') v v1 v2 v3) u v1 v2 v3 := by
  obtain ⟨fc, hd, al, sho, shr, us, fo, sw, sc, ho, fr, tc, di⟩ := u
  obtain ⟨al', st, op, ce⟩ := v
  have I0 := I
  obtain ⟨rfl, C, S, V, hD, hX, hE, hP⟩ := I
  rcases cw_pc v1 v2 with hb | ⟨p, q, hp, hq, rfl, rfl⟩
  · have Y : wpY_write (fun r' v' => r' = -1 ∧ i_Rel (k + 4) (fc, hd, al, sho, shr, us, fo, sw, sc, ho, fr, tc, di) v') (al, st, op, ce) v1 v2 v3 := by
      have I1 : (-1 : Int32) = -1 ∧ i_Rel (k + 4) (fc, hd, al, sho, shr, us, fo, sw, sc, ho, fr, tc, di) (al, st, op, ce) := ⟨rfl, I0⟩
      refine br_c (fun _ => br_t rfl I1) (fun a => br_c (fun _ => br_t rfl I1) (fun b => br_f (by decide) (br_c (fun _ => I1) (fun c => br_c (fun d => ?_) (fun _ => I1)))))
      rcases hb with h | h | h | h
      · exact absurd h a
      · exact absurd h b
      · exact absurd h c
      · exact absurd h (Int32.not_lt.mpr d)
    refine br_c (fun _ => Y) (fun a => br_c (fun _ => Y) (fun b => br_c (fun _ => Y) (fun c => br_c (fun d => ?_) (fun _ => Y))))
    rcases hb with h | h | h | h
    · exact absurd h a
    · exact absurd h b
    · exact absurd h c
    · exact absurd h (Int32.not_lt.mpr d)
  · have he : 5 * p + q / 4 < 20 := by omega
    have kp : (nI p).toNatClampNeg = p := nI_clamp (by omega)
    have ke : (nI (5 * p + q / 4)).toNatClampNeg = 5 * p + q / 4 := nI_clamp (by omega)
    have hEx := cw_XE hX
    have d4 : ¬ (4 : Int32) = 0 := by decide
    have n4 := cw_n4 (a := q) (by omega)
    have Yd : al p = 0 → wpY_write (fun r' v' => r' = -2 ∧ i_Rel (k + 4) (fc, hd, al, sho, shr, us, fo, sw, sc, ho, fr, tc, di) v') (al, st, op, ce) (nI p) (nI q) v3 := by
      intro ha
      unfold wpY_write
      dsimp only
      rw [kp]
      exact cw_yPG hp (br_f (nI_pos (by omega)) (br_t (nI_le (b := 19) (by omega) (by decide)) ⟨vp_in_nI hp (by decide), br_t ha ⟨rfl, I0⟩⟩))
    have Yu : ¬ al p = 0 → ¬ C (5 * p + q / 4) < 20 → wpY_write (fun r' v' => r' = -3 ∧ i_Rel (k + 4) (fc, hd, al, sho, shr, us, fo, sw, sc, ho, fr, tc, di) v') (al, st, op, ce) (nI p) (nI q) v3 := by
      intro ha hC
      have hS : ¬ S (5 * p + q / 4) < 20 := fun z => hC ((hP.1 _ he).mpr z)
      unfold wpY_write
      dsimp only
      rw [kp, n4.2.2.2, n4.2.2.1, cw_x5, ke, hE _ he]
      refine cw_yPG hp (br_f (nI_pos (by omega)) (br_t (nI_le (b := 19) (by omega) (by decide)) ⟨vp_in_nI hp (by decide), br_f ha ⟨d4, vp_in_nI he (by decide), fun x ex => ?_⟩⟩))
      subst ex
      exact br_f (fun z => hS ((cw_en_nn (by decide)).mp z)) ⟨rfl, I0⟩
    have Yw : ∀ u' : SX, ¬ al p = 0 → S (5 * p + q / 4) < 20 → i_Rel (k + 4) u' (al, st, op, upd ce (4 * S (5 * p + q / 4) + q % 4) v3) → wpY_write (fun r' v' => r' = nI q ∧ i_Rel (k + 4) u' v') (al, st, op, ce) (nI p) (nI q) v3 := by
      intro u' ha hS hR
      unfold wpY_write
      dsimp only
      rw [kp, n4.2.2.2, n4.2.2.1, cw_x5, ke, hE _ he, cw_en_lt hS]
      refine cw_yPG hp (br_f (nI_pos (by omega)) (br_t (nI_le (b := 19) (by omega) (by decide)) ⟨vp_in_nI hp (by decide), br_f ha ⟨d4, vp_in_nI he (by decide), fun x ex => ?_⟩⟩))
      subst ex
      rw [cw_x4, nI_clamp (by omega)]
      refine br_t (nI_pos' (by omega)) ⟨d4, vp_in_nI (by omega) (by decide), fun y ey => ?_⟩
      subst ey
      exact ⟨rfl, hR⟩
    unfold wpX_write
    dsimp only
    rw [n4.1, kp]
    refine br_f (nI_pos (by omega)) (br_f (nI_nlt (a := 3) (by omega) (by decide)) (br_f (nI_pos (by omega)) (br_t (nI_le (b := 19) (by omega) (by decide)) ⟨vp_in_nI hp (by decide), br_c Yd (fun ha x ex => ?_)⟩)))
    rw [cw_x5] at ex
    subst ex
    rw [ke, hEx _ he]
    refine ⟨vp_in_nI he (by decide), br_c (fun h0 => ⟨vp_in_nI he (by decide), ?_⟩) (fun h0 => Yu ha (fun z => h0 ((cw_en_nn (by decide)).mpr z)))⟩
    have hC : C (5 * p + q / 4) < 20 := (cw_en_nn (by decide)).mp h0
    have hS : S (5 * p + q / 4) < 20 := (hP.1 _ he).mp hC
    have hcl := cw_cn_le C (C (5 * p + q / 4)) 20
    rw [cw_en_lt hC, nI_clamp (by omega), cw_XU hX _ hC]
    refine br_c (fun hs0 => ⟨vp_in_nI he (by decide), vp_in_nI hC (by decide), pk_le (cw_cn C (C (5 * p + q / 4)) 20) 1 (fun hle => ?_) (fun hlt => ?_)⟩) (fun hs1 => ?_)
    · refine cw_w87 hX he rfl hC hq (fun V' hd' fo' sw' sc' ho' fr' tc' di' hX' h1 h2 => Yw _ ha hS ?_)
      exact cw_mk hD hX' hE (cw_P_wr hP he hC (Or.inr (cw_cn_uq he rfl hle)) (by omega) h1 h2)
    · refine cw_pt hX he rfl hC hlt (fun c V1 hd1 us1 fo1 sw1 sc1 ho1 fr1 tc1 di1 hc hf hX1 g1 g2 => ?_)
      dsimp only
      have hP1 : cw_P (cw_un C (5 * p + q / 4) c) S V1 shr op ce := by
        have := cw_P_set (e := 5 * p + q / 4) (c := c) (s := S (5 * p + q / 4)) (V' := V1) (sh' := shr) (op' := op) (ce' := ce) hP hc hS (hP.2.1 _ he hC).1 (hP.2.1 _ he hC).2.1 (fun _ _ => rfl) (fun _ _ => rfl) (fun d hd hn hl i hi => g1 _ (hf d hd hn) i) (fun _ _ _ _ _ _ => rfl) (fun i hi => by rw [g2]; exact (hP.2.1 _ he hC).2.2 i hi) (fun d hd hn z => absurd z (hf d hd hn)) (fun d hd hn hl => ⟨fun z => ?_, fun z => absurd z.1 (hf d hd hn)⟩)
        · rw [cw_un_self] at this
          exact this
        · rcases (hP.2.2.2 _ d he hd hC hl).mp z with y | y
          · exact absurd y hn
          · rw [hs0] at y
            exact absurd y.2 (by decide)
      refine cw_w87 (v := v3) hX1 he cw_us hc hq (fun V' hd' fo' sw' sc' ho' fr' tc' di' hX' h1 h2 => Yw _ ha hS ?_)
      refine cw_mk (cw_D_set hD (by omega) ha) hX' hE (cw_P_wr hP1 he (by rw [cw_us]; exact hc) (Or.inr (fun d hd z => ?_)) (by omega) (by rw [cw_us]; exact h1) (by rw [cw_us]; exact h2))
      rw [cw_us] at z
      refine Classical.byContradiction (fun y => hf d hd y ?_)
      rw [cw_ud y] at z
      exact z
    · refine cw_w87 hX he rfl hC hq (fun V' hd' fo' sw' sc' ho' fr' tc' di' hX' h1 h2 => Yw _ ha hS ?_)
      exact cw_mk hD hX' hE (cw_P_wr hP he hC (Or.inl ((hP.2.1 _ he hC).1.elim (fun z => absurd z hs1) (fun z => z))) (by omega) h1 h2)
end
section
/-! fork, exit: both loops in lockstep -/
section
variable {fc hd : Int32} {al sho shr us fo sw sc ho fr tc di st op ce : Nat → Int32}
theorem cw_fxU {post : Int32 → SX → Prop} {p q k n : Nat} {x : Int32} (hp : p < 4) (hq : q < 4) (hk : k < 5) (hpq : p ≠ q) (hs : sho (5 * p + k) = -1)
    (K : wX_fork_56 post (nI p) (nI q) fc hd n x (nI (k + 1)) al (upd sho (5 * q + k) (-1)) (upd shr (5 * q + k) (vp_nar .boolean (shr (5 * p + k)))) us fo sw sc ho fr tc di) :
    wX_fork_56 post (nI p) (nI q) fc hd (n + 1) x (nI k) al sho shr us fo sw sc ho fr tc di := by
  refine pk_le 5 k (fun hle => absurd hle (by omega)) (fun _ a ea b eb => ?_)
  rw [cw_x5] at ea eb
  subst ea eb
  rw [nI_clamp (by omega), nI_clamp (by omega), hs, cw_b1]
  refine ⟨vp_in_nI (by omega) (by decide), vp_in_nI (by omega) (by decide), fun s es => ⟨vp_in_nI (by omega) (by decide), vp_in_nI (by omega) (by decide), fun t et => ⟨vp_in_nI (by omega) (by decide), br_f ?_ (fun y ey => ?_)⟩⟩⟩
  · rw [es, pk_un (by omega), hs]
    decide
  · rw [nI_1] at ey
    subst es et ey
    exact K
theorem cw_fxM {post : Int32 → SX → Prop} {p q k n c m : Nat} {x : Int32} (hp : p < 4) (hq : q < 4) (hk : k < 5) (hpq : p ≠ q) (hs : sho (5 * p + k) = nI c) (hc : c < 20) (hm : m < 50) (hu : us c = nI m)
    (K : wX_fork_56 post (nI p) (nI q) fc hd n (x + 1) (nI (k + 1)) al (upd sho (5 * q + k) (nI c)) (upd shr (5 * q + k) (vp_nar .boolean (shr (5 * p + k)))) (upd us c (nI (m + 1))) fo sw sc ho fr tc di) :
    wX_fork_56 post (nI p) (nI q) fc hd (n + 1) x (nI k) al sho shr us fo sw sc ho fr tc di := by
  refine pk_le 5 k (fun hle => absurd hle (by omega)) (fun _ a ea b eb => ?_)
  rw [cw_x5] at ea eb
  subst ea eb
  rw [nI_clamp (by omega), nI_clamp (by omega), hs, (cw_by c (by omega)).1]
  refine ⟨vp_in_nI (by omega) (by decide), vp_in_nI (by omega) (by decide), fun s es => ⟨vp_in_nI (by omega) (by decide), vp_in_nI (by omega) (by decide), fun t et => ⟨vp_in_nI (by omega) (by decide), ?_⟩⟩⟩
  have e : s (5 * p + k) = nI c := by rw [es, pk_un (by omega), hs]
  rw [e, nI_clamp (by omega), hu, nI_1, (cw_by (m + 1) (by omega)).2]
  refine br_t (nI_pos' (by omega)) ⟨vp_in_nI (by omega) (by decide), vp_in_nI hc (by decide), vp_in_nI hc (by decide), fun w ew y ey z ez => ?_⟩
  rw [nI_1] at ez
  subst es et ew ey ez
  exact K
theorem cw_fyU {post : Int32 → SY → Prop} {p q k n : Nat} {x : Int32} (hp : p < 4) (hk : k < 5) (hs : st (5 * p + k) = -1) (K : wY_fork_54 post (nI p) (nI q) n x (nI (k + 1)) al st op ce) : wY_fork_54 post (nI p) (nI q) (n + 1) x (nI k) al st op ce := by
  refine pk_le 5 k (fun hle => absurd hle (by omega)) (fun _ => ?_)
  rw [cw_x5, cw_x5, nI_clamp (by omega), hs]
  refine ⟨vp_in_nI (by omega) (by decide), br_t (by decide) (fun y ey => ?_)⟩
  rw [nI_1] at ey
  subst ey
  exact K
theorem cw_fyM {post : Int32 → SY → Prop} {p q k n t : Nat} {x : Int32} (hp : p < 4) (hk : k < 5) (hs : st (5 * p + k) = nI t) (ht : t < 20)
    (K : wpY_copyPage (fun u => match u with | (a, b, c, d) => wY_fork_54 post (nI p) (nI q) n (x + 1) (nI (k + 1)) a b c d) (al, st, op, ce) (nI (5 * p + k)) (nI (5 * q + k))) : wY_fork_54 post (nI p) (nI q) (n + 1) x (nI k) al st op ce := by
  refine pk_le 5 k (fun hle => absurd hle (by omega)) (fun _ => ?_)
  rw [cw_x5, cw_x5, nI_clamp (by omega), hs]
  refine ⟨vp_in_nI (by omega) (by decide), br_f (nI_pos (by omega)) ?_⟩
  have e : (fun u : SY => match u with | (a, b, c, d) => ∀ y : Int32, y = x + 1 → ∀ z : Int32, z = nI k + 1 → wY_fork_54 post (nI p) (nI q) n y z a b c d) = (fun u => match u with | (a, b, c, d) => wY_fork_54 post (nI p) (nI q) n (x + 1) (nI (k + 1)) a b c d) := by
    funext u
    obtain ⟨a, b, c, d⟩ := u
    apply propext
    dsimp only
    rw [nI_1]
    exact ⟨fun h => h _ rfl _ rfl, fun h y ey z ez => by subst ey ez; exact h⟩
  rw [← e] at K
  exact K
end
section
variable {fc hd : Int32} {al fo sw sc ho fr tc di : Nat → Int32} {V : Nat → Nat → Int32}
theorem cw_cell (ce : Nat → Int32) (s t : Nat) : ∃ ce' : Nat → Int32, (∀ j, j < 4 → ce' (4 * s + j) = ce (4 * t + j)) ∧ (∀ j, (j < 4 * s ∨ 4 * s + 4 ≤ j) → ce' j = ce j) ∧
    ∀ c2 : Nat → Int32, (∀ j, j < 4 → c2 (4 * s + j) = ce (4 * t + j)) → (∀ j, (j < 4 * s ∨ 4 * s + 4 ≤ j) → c2 j = ce j) → c2 = ce' := by
  refine ⟨fun j => if j < 4 * s ∨ 4 * s + 4 ≤ j then ce j else ce (4 * t + (j - 4 * s)), fun j hj => ?_, fun j hj => if_pos hj, fun c2 h1 h2 => ?_⟩
  · show (if 4 * s + j < 4 * s ∨ 4 * s + 4 ≤ 4 * s + j then ce (4 * s + j) else ce (4 * t + (4 * s + j - 4 * s))) = _
    rw [if_neg (by omega), Nat.add_sub_cancel_left]
  · funext j
    show c2 j = (if j < 4 * s ∨ 4 * s + 4 ≤ j then ce j else ce (4 * t + (j - 4 * s)))
    by_cases q : j < 4 * s ∨ 4 * s + 4 ≤ j
    · rw [if_pos q]
      exact h2 j q
    · rw [if_neg q, ← h1 (j - 4 * s) (by omega)]
      exact congrArg c2 (by omega)
theorem cw_fk {p q : Nat} (hp : p < 4) (hq : q < 4) (hpq : p ≠ q) : ∀ (d k : Nat), k + d = 5 → ∀ (C S : Nat → Nat) (sho shr us st op ce : Nat → Int32) (x : Int32), cw_X C V fc hd sho us fo sw sc ho fr di → cw_E 20 20 st S → cw_P C S V shr op ce → (∀ j, k ≤ j → j < 5 → ¬ C (5 * q + j) < 20) →
    ∃ (C' S' : Nat → Nat) (sho' shr' us' st' op' ce' : Nat → Int32) (r : Int32), cw_X C' V fc hd sho' us' fo sw sc ho fr di ∧ cw_E 20 20 st' S' ∧ cw_P C' S' V shr' op' ce' ∧ (∀ e, (e < 5 * q ∨ 5 * q + 5 ≤ e) → C' e = C e) ∧
      (∀ post : Int32 → SX → Prop, post r (fc, hd, al, sho', shr', us', fo, sw, sc, ho, fr, tc, di) → wX_fork_56 post (nI p) (nI q) fc hd (d + 1) x (nI k) al sho shr us fo sw sc ho fr tc di) ∧
      (∀ post : Int32 → SY → Prop, post r (al, st', op', ce') → wY_fork_54 post (nI p) (nI q) (d + 1) x (nI k) al st op ce) := by
  intro d
  induction d with
  | zero =>
    intro k hk C S sho shr us st op ce x hX hE hP _
    refine ⟨C, S, sho, shr, us, st, op, ce, x, hX, hE, hP, fun _ _ => rfl, fun post K => ?_, fun post K => ?_⟩
    · exact pk_le 5 k (fun _ => K) (fun h => absurd h (by omega))
    · exact pk_le 5 k (fun _ => K) (fun h => absurd h (by omega))
  | succ d ih =>
    intro k hk C S sho shr us st op ce x hX hE hP hQ
    have ha : 5 * p + k < 20 := by omega
    have hb : 5 * q + k < 20 := by omega
    have hEx := cw_XE hX
    have hCb : ¬ C (5 * q + k) < 20 := hQ k (by omega) (by omega)
    have hSb : ¬ S (5 * q + k) < 20 := fun z => hCb ((hP.1 _ hb).mpr z)
    have hQ' : ∀ c j, k + 1 ≤ j → j < 5 → ¬ cw_un C (5 * q + k) c (5 * q + j) < 20 := by
      intro c j h1 h2
      rw [cw_ud (by omega)]
      exact hQ j (by omega) h2
    by_cases hC : C (5 * p + k) < 20
    · have hS : S (5 * p + k) < 20 := (hP.1 _ ha).mp hC
      have es : sho (5 * p + k) = nI (C (5 * p + k)) := by rw [hEx _ ha]; exact cw_en_lt hC
      have et : st (5 * p + k) = nI (S (5 * p + k)) := by rw [hE _ ha]; exact cw_en_lt hS
      have hcl := cw_cn_le C (C (5 * p + k)) 20
      have hX1 := cw_XI hX hb hCb hC
      have h2 := hP.2.1 _ ha hC
      have hnar : vp_nar .boolean (shr (5 * p + k)) = shr (5 * p + k) := by
        rcases h2.1 with z | z
        · rw [z, cw_z0]
        · rw [z, cw_z1]
      rcases h2.1 with z | z
      · obtain ⟨s, hs, hsf, Y⟩ := cw_ycP (al := al) (ce := ce) hE ha hb rfl hS hSb (h2.2.1.trans z)
        have hP1 : ∀ ce' : Nat → Int32, (∀ j, j < 4 → ce' (4 * s + j) = ce (4 * S (5 * p + k) + j)) → (∀ j, (j < 4 * s ∨ 4 * s + 4 ≤ j) → ce' j = ce j) → cw_P (cw_un C (5 * q + k) (C (5 * p + k))) (cw_un S (5 * q + k) s) V (upd shr (5 * q + k) (shr (5 * p + k))) (upd op (5 * q + k) (shr (5 * p + k))) ce' := by
          intro ce' g1 g2
          refine cw_P_set hP hC hs (by rw [pk_us]; exact h2.1) (by rw [pk_us, pk_us]) (fun d hd => pk_un hd) (fun d hd => pk_un hd) (fun _ _ _ _ _ _ => rfl) (fun d hd hn hl i hi => g2 _ (by have := hsf d hd; omega)) (fun i hi => by rw [g1 i hi]; exact h2.2.2 i hi) (fun d hd hn y => ?_) (fun d hd hn hl => ⟨fun y => absurd y (hsf d hd), fun y => ?_⟩)
          · rw [pk_us]
            exact hP.2.2.1 _ d ha hd hC y
          · rw [pk_us, z] at y
            exact absurd y.2 (by decide)
        obtain ⟨ce', g1, g2, Y'⟩ : ∃ ce' : Nat → Int32, (∀ j, j < 4 → ce' (4 * s + j) = ce (4 * S (5 * p + k) + j)) ∧ (∀ j, (j < 4 * s ∨ 4 * s + 4 ≤ j) → ce' j = ce j) ∧ ∀ post : SY → Prop, post (al, upd st (5 * q + k) (nI s), upd op (5 * q + k) (vp_nar .boolean (op (5 * p + k))), ce') → wpY_copyPage post (al, st, op, ce) (nI (5 * p + k)) (nI (5 * q + k)) := by
          obtain ⟨ce', g1, g2, g3⟩ := cw_cell ce s (S (5 * p + k))
          refine ⟨ce', g1, g2, fun post K => Y post (fun c2 q1 q2 => ?_)⟩
          rw [g3 c2 q1 q2]
          exact K
        obtain ⟨C', S', sho', shr', us', st', op', ce'', r, i1, i2, i3, i4, i5, i6⟩ := ih (k + 1) (by omega) _ _ _ _ _ _ _ _ (x + 1) hX1 (cw_E_upd hE (cw_en_lt hs).symm) (hP1 ce' g1 g2) (hQ' _)
        refine ⟨C', S', sho', shr', us', st', op', ce'', r, i1, i2, i3, fun e he => (i4 e he).trans (cw_ud (by omega)), fun post K => ?_, fun post K => ?_⟩
        · refine cw_fxM hp hq (by omega) hpq es hC (by omega) (cw_XU hX _ hC) ?_
          rw [hnar]
          exact i5 post K
        · refine cw_fyM hp (by omega) et hS (Y' _ ?_)
          dsimp only
          rw [h2.2.1, hnar]
          exact i6 post K
      · have hP1 : cw_P (cw_un C (5 * q + k) (C (5 * p + k))) (cw_un S (5 * q + k) (S (5 * p + k))) V (upd shr (5 * q + k) (shr (5 * p + k))) (upd op (5 * q + k) (shr (5 * p + k))) ce := by
          refine cw_P_set hP hC hS (by rw [pk_us]; exact h2.1) (by rw [pk_us, pk_us]) (fun d hd => pk_un hd) (fun d hd => pk_un hd) (fun _ _ _ _ _ _ => rfl) (fun _ _ _ _ _ _ => rfl) h2.2.2 (fun d hd hn y => ?_) (fun d hd hn hl => ?_)
          · rw [pk_us]
            exact hP.2.2.1 _ d ha hd hC y
          · rw [pk_us, z]
            constructor
            · intro y
              rcases (hP.2.2.2 _ d ha hd hC hl).mp y with w | w
              · rw [w]
                exact ⟨rfl, rfl⟩
              · exact ⟨w.1, rfl⟩
            · intro y
              exact (hP.2.2.2 _ d ha hd hC hl).mpr (Or.inr ⟨y.1, z⟩)
        obtain ⟨C', S', sho', shr', us', st', op', ce'', r, i1, i2, i3, i4, i5, i6⟩ := ih (k + 1) (by omega) _ _ _ _ _ _ _ _ (x + 1) hX1 (cw_E_upd hE (cw_en_lt hS).symm) hP1 (hQ' _)
        refine ⟨C', S', sho', shr', us', st', op', ce'', r, i1, i2, i3, fun e he => (i4 e he).trans (cw_ud (by omega)), fun post K => ?_, fun post K => ?_⟩
        · refine cw_fxM hp hq (by omega) hpq es hC (by omega) (cw_XU hX _ hC) ?_
          rw [hnar]
          exact i5 post K
        · refine cw_fyM hp (by omega) et hS (cw_ycS ha hb et (by rw [h2.2.1, z]; decide) ?_)
          dsimp only
          rw [h2.2.1, hnar]
          exact i6 post K
    · have hS : ¬ S (5 * p + k) < 20 := fun z => hC ((hP.1 _ ha).mpr z)
      have es : sho (5 * p + k) = -1 := by rw [hEx _ ha]; exact cw_en_ge hC
      have et : st (5 * p + k) = -1 := by rw [hE _ ha]; exact cw_en_ge hS
      have hX1 : cw_X C V fc hd (upd sho (5 * q + k) (-1)) us fo sw sc ho fr di := by
        obtain ⟨F, h, G, H, hF, hh, e1, e2, hE1, hU, hFr⟩ := hX
        exact ⟨F, h, G, H, hF, hh, e1, e2, cw_E_same hE1 (cw_en_ge hCb).symm, hU, hFr⟩
      have hP1 : cw_P C S V (upd shr (5 * q + k) (vp_nar .boolean (shr (5 * p + k)))) op ce := cw_P_cg hP (fun d hd hl => pk_un (fun z => hCb (by rw [← z]; exact hl)))
      obtain ⟨C', S', sho', shr', us', st', op', ce'', r, i1, i2, i3, i4, i5, i6⟩ := ih (k + 1) (by omega) _ _ _ _ _ _ _ _ x hX1 hE hP1 (fun j h1 h2 => hQ j (by omega) h2)
      exact ⟨C', S', sho', shr', us', st', op', ce'', r, i1, i2, i3, i4, fun post K => cw_fxU hp hq (by omega) hpq es (i5 post K), fun post K => cw_fyU hp (by omega) et (i6 post K)⟩
end
theorem i_vc_fork {k : Nat} {u : SX} {v : SY} (I : i_Rel k u v) (hk : k + 4 ≤ 2049) (v1 : Int32) (v2 : Int32) : wpX_fork (fun r u' => wpY_fork (fun r' v' => r' = r ∧ i_Rel (k + 4) u' v') v v1 v2) u v1 v2 := by
  obtain ⟨fc, hd, al, sho, shr, us, fo, sw, sc, ho, fr, tc, di⟩ := u
  obtain ⟨al', st, op, ce⟩ := v
  have I0 := I
  obtain ⟨rfl, C, S, V, hD, hX, hE, hP⟩ := I
  have B : (v1 < 0 ∨ 3 < v1 ∨ v2 < 0 ∨ 3 < v2) ∨ ∃ p q : Nat, p < 4 ∧ q < 4 ∧ v1 = nI p ∧ v2 = nI q := by
    rcases cw_ix v1 3 3 (by decide) with h | ⟨p, hp, e1⟩
    · rcases h with h | h
      · exact Or.inl (Or.inl h)
      · exact Or.inl (Or.inr (Or.inl h))
    · rcases cw_ix v2 3 3 (by decide) with h | ⟨q, hq, e2⟩
      · exact Or.inl (Or.inr (Or.inr h))
      · exact Or.inr ⟨p, q, by omega, by omega, e1, e2⟩
  rcases B with hb | ⟨p, q, hp, hq, rfl, rfl⟩
  · have Y : wpY_fork (fun r' v' => r' = -1 ∧ i_Rel (k + 4) (fc, hd, al, sho, shr, us, fo, sw, sc, ho, fr, tc, di) v') (al, st, op, ce) v1 v2 := by
      have I1 : (-1 : Int32) = -1 ∧ i_Rel (k + 4) (fc, hd, al, sho, shr, us, fo, sw, sc, ho, fr, tc, di) (al, st, op, ce) := ⟨rfl, I0⟩
      refine br_c (fun _ => br_t rfl I1) (fun a => br_c (fun _ => br_t rfl I1) (fun b => br_f (by decide) (br_c (fun _ => br_t rfl I1) (fun c => br_c (fun _ => br_t rfl I1) (fun d => ?_)))))
      rcases hb with h | h | h | h
      · exact absurd h a
      · exact absurd h b
      · exact absurd h c
      · exact absurd h d
    refine br_c (fun _ => Y) (fun a => br_c (fun _ => Y) (fun b => br_c (fun _ => Y) (fun c => br_c (fun d => ?_) (fun _ => Y))))
    rcases hb with h | h | h | h
    · exact absurd h a
    · exact absurd h b
    · exact absurd h c
    · exact absurd h (Int32.not_lt.mpr d)
  · have kp : (nI p).toNatClampNeg = p := nI_clamp (by omega)
    have kq : (nI q).toNatClampNeg = q := nI_clamp (by omega)
    have Y : ∀ (r : Int32) (u' : SX), (al p = 0 → (-2 = r ∧ i_Rel (k + 4) u' (al, st, op, ce))) ∧ (¬ al p = 0 → (al q = 0 → ∃ n54 : Nat, wY_fork_54 (fun r' v' => r' = r ∧ i_Rel (k + 4) u' v') (nI p) (nI q) n54 0 0 (upd al q 1) st op ce) ∧ (¬ al q = 0 → (-4 = r ∧ i_Rel (k + 4) u' (al, st, op, ce)))) →
        wpY_fork (fun r' v' => r' = r ∧ i_Rel (k + 4) u' v') (al, st, op, ce) (nI p) (nI q) := by
      intro r u' K
      unfold wpY_fork
      dsimp only
      rw [kp, kq, cw_z1]
      refine cw_yPG hp (cw_yPG hq ⟨vp_in_nI hp (by decide), K.1, fun ha => ⟨vp_in_nI hq (by decide), fun hb => ⟨vp_in_nI hq (by decide), fun a ea => ?_⟩, (K.2 ha).2⟩⟩)
      subst ea
      exact (K.2 ha).1 hb
    unfold wpX_fork
    dsimp only
    rw [kp, kq, cw_z1]
    refine br_f (nI_pos (by omega)) (br_f (nI_nlt (a := 3) (by omega) (by decide)) (br_f (nI_pos (by omega)) (br_t (nI_le (b := 3) (by omega) (by decide)) ⟨vp_in_nI hp (by decide), br_c (fun ha => Y _ _ (br_t ha ⟨rfl, I0⟩)) (fun ha => ⟨vp_in_nI hq (by decide), br_c (fun hb => ⟨vp_in_nI hq (by decide), fun a ea => ?_⟩) (fun hb => Y _ _ (br_f ha (br_f hb ⟨rfl, I0⟩)))⟩)⟩)))
    subst ea
    have hpq : p ≠ q := by
      intro z
      rw [z] at ha
      exact ha hb
    obtain ⟨C', S', sho', shr', us', st', op', ce', r, i1, i2, i3, i4, i5, i6⟩ := cw_fk (al := upd al q 1) (tc := tc) hp hq hpq 5 0 rfl C S sho shr us st op ce 0 hX hE hP (fun j _ hj => hD q hq hb j hj)
    refine ⟨6, i5 _ (Y _ _ (br_f ha (br_t hb ⟨6, i6 _ ⟨rfl, cw_mk ?_ i1 i2 i3⟩⟩)))⟩
    intro t ht h0 j hj
    have hne : t ≠ q := by
      intro z
      rw [z, pk_us] at h0
      exact absurd h0 (by decide)
    rw [pk_un hne] at h0
    rw [i4 _ (by omega)]
    exact hD t ht h0 j hj
end
section
/-! exit -/
section
variable {fc hd : Int32} {al al2 shr sw sc fr tc di op ce : Nat → Int32}
theorem cw_ex {p : Nat} (hp : p < 4) : ∀ (d k : Nat), k + d = 5 → ∀ (C S : Nat → Nat) (V : Nat → Nat → Int32) (sho us fo ho st : Nat → Int32) (x : Int32), cw_X C V fc hd sho us fo sw sc ho fr di → cw_E 20 20 st S → cw_P C S V shr op ce →
    ∀ (PX : Int32 → SX → Prop),
    (∀ (C' S' : Nat → Nat) (V' : Nat → Nat → Int32) (sho' us' fo' ho' st' : Nat → Int32) (r : Int32), cw_X C' V' fc hd sho' us' fo' sw sc ho' fr di → cw_E 20 20 st' S' → cw_P C' S' V' shr op ce → (∀ e, C' e < 20 → C e < 20) → (∀ j, k ≤ j → j < 5 → ¬ C' (5 * p + j) < 20) →
      (∀ post : Int32 → SY → Prop, post r (upd al2 p 0, st', op, ce) → wY_exit_26 post (nI p) (d + 1) x (nI k) al2 st op ce) → PX r (fc, hd, al, sho', shr, us', fo', sw, sc, ho', fr, tc, di)) →
    wX_exit_36 PX (nI p) (d + 1) x (nI (5 * p + k)) fc hd al sho shr us fo sw sc ho fr tc di := by
  intro d
  induction d with
  | zero =>
    intro k hk C S V sho us fo ho st x hX hE hP PX K
    have e5 : 5 * nI p + 5 = nI (5 * p + 5) := cw_x5 p 5
    unfold wX_exit_36
    rw [e5]
    refine pk_le (5 * p + 5) (5 * p + k) (fun _ => ?_) (fun h => absurd h (by omega))
    refine K C S V sho us fo ho st x hX hE hP (fun _ z => z) (fun j h1 h2 => by omega) (fun post Q => ?_)
    refine pk_le 5 k (fun _ => ⟨vp_in_nI hp (by decide), fun a ea => ?_⟩) (fun h => absurd h (by omega))
    rw [nI_clamp (by omega), cw_z0] at ea
    subst ea
    exact Q
  | succ d ih =>
    intro k hk C S V sho us fo ho st x hX hE hP PX K
    have he : 5 * p + k < 20 := by omega
    have hEx := cw_XE hX
    have e5 : 5 * nI p + 5 = nI (5 * p + 5) := cw_x5 p 5
    have ke : (nI (5 * p + k)).toNatClampNeg = 5 * p + k := nI_clamp (by omega)
    have YS : ∀ (post : Int32 → SY → Prop), (S (5 * p + k) < 20 → wY_exit_26 post (nI p) (d + 1) (x + 1) (nI (k + 1)) al2 (upd st (5 * p + k) (-1)) op ce) → (¬ S (5 * p + k) < 20 → wY_exit_26 post (nI p) (d + 1) x (nI (k + 1)) al2 (upd st (5 * p + k) (-1)) op ce) →
        wY_exit_26 post (nI p) (d + 1 + 1) x (nI k) al2 st op ce := by
      intro post K1 K2
      refine pk_le 5 k (fun h => absurd h (by omega)) (fun _ => ?_)
      rw [cw_x5, ke, hE _ he]
      refine ⟨vp_in_nI he (by decide), br_c (fun h0 => ?_) (fun h0 y ey => ?_)⟩
      · unfold wY_exit_47
        rw [cw_x5, ke]
        refine ⟨vp_in_nI he (by decide), fun a ea z ez => ?_⟩
        rw [nI_1] at ez
        subst ea ez
        exact K2 ((cw_en_ng (by decide)).mp h0)
      · unfold wY_exit_47
        rw [cw_x5, ke]
        refine ⟨vp_in_nI he (by decide), fun a ea z ez => ?_⟩
        rw [nI_1] at ez
        subst ea ey ez
        exact K1 (Classical.byContradiction (fun z => h0 ((cw_en_ng (by decide)).mpr z)))
    unfold wX_exit_36
    rw [e5]
    refine pk_le (5 * p + 5) (5 * p + k) (fun h => absurd h (by omega)) (fun _ => ?_)
    rw [ke, hEx _ he]
    refine ⟨vp_in_nI he (by decide), br_c (fun h0 => ?_) (fun h0 y ey => ?_)⟩
    · have hC : C (5 * p + k) < 20 := (cw_en_nn (by decide)).mp h0
      have hS : S (5 * p + k) < 20 := (hP.1 _ he).mp hC
      refine cw_rl hX he rfl hC (fun V1 us1 fo1 ho1 hX1 hV1 => ?_)
      dsimp only
      intro y ey z ez
      rw [nI_1] at ez
      subst ey ez
      have hP1 : cw_P (cw_un C (5 * p + k) 20) (cw_un S (5 * p + k) 20) V1 shr op ce := cw_P_clr hP (fun d hd hn hl i hi => hV1 (C d) hl (cw_cn_pos hd (cw_ud hn)) i hi)
      refine ih (k + 1) (by omega) _ _ V1 _ _ _ _ _ (x + 1) hX1 (cw_E_upd hE (cw_en_ge (by omega)).symm) hP1 PX (fun C' S' V' sho' us' fo' ho' st' r j1 j2 j3 j4 j5 j6 => ?_)
      have j7 : ∀ e, C' e < 20 → e ≠ 5 * p + k ∧ C e < 20 := by
        intro e hl
        have := j4 e hl
        by_cases q : e = 5 * p + k
        · rw [q, cw_us] at this
          omega
        · rw [cw_ud q] at this
          exact ⟨q, this⟩
      refine K C' S' V' sho' us' fo' ho' st' r j1 j2 j3 (fun e hl => (j7 e hl).2) (fun j h1 h2 hl => ?_) (fun post Q => YS post (fun _ => j6 post Q) (fun z => absurd hS z))
      by_cases q : j = k
      · rw [q] at hl
        exact (j7 _ hl).1 rfl
      · exact j5 j (by omega) h2 hl
    · have hC : ¬ C (5 * p + k) < 20 := fun z => h0 ((cw_en_nn (by decide)).mpr z)
      have hS : ¬ S (5 * p + k) < 20 := fun z => hC ((hP.1 _ he).mpr z)
      rw [nI_1] at ey
      subst ey
      refine ih (k + 1) (by omega) C S V sho us fo ho (upd st (5 * p + k) (-1)) x hX (cw_E_same hE (cw_en_ge hS).symm) hP PX (fun C' S' V' sho' us' fo' ho' st' r j1 j2 j3 j4 j5 j6 => ?_)
      refine K C' S' V' sho' us' fo' ho' st' r j1 j2 j3 j4 (fun j h1 h2 hl => ?_) (fun post Q => YS post (fun z => absurd z hS) (fun _ => j6 post Q))
      by_cases q : j = k
      · rw [q] at hl
        exact hC (j4 _ hl)
      · exact j5 j (by omega) h2 hl
end
theorem i_vc_exit {k : Nat} {u : SX} {v : SY} (I : i_Rel k u v) (hk : k + 4 ≤ 2049) (v1 : Int32) : wpX_exit (fun r u' => wpY_exit (fun r' v' => r' = r ∧ i_Rel (k + 4) u' v') v v1) u v1 := by
  obtain ⟨fc, hd, al, sho, shr, us, fo, sw, sc, ho, fr, tc, di⟩ := u
  obtain ⟨al', st, op, ce⟩ := v
  have I0 := I
  obtain ⟨rfl, C, S, V, hD, hX, hE, hP⟩ := I
  rcases cw_ix v1 3 3 (by decide) with hb | ⟨p, hp', rfl⟩
  · have Y : wpY_exit (fun r' v' => r' = -1 ∧ i_Rel (k + 4) (fc, hd, al, sho, shr, us, fo, sw, sc, ho, fr, tc, di) v') (al, st, op, ce) v1 := by
      unfold wpY_exit
      dsimp only
      exact cw_yPB hb ⟨rfl, I0⟩
    refine br_c (fun _ => Y) (fun a => br_c (fun d => ?_) (fun _ => Y))
    rcases hb with h | h
    · exact absurd h a
    · exact absurd h (Int32.not_lt.mpr d)
  · have hp : p < 4 := by omega
    have kp : (nI p).toNatClampNeg = p := nI_clamp (by omega)
    have ep : 5 * nI p = nI (5 * p + 0) := by
      show nI 5 * nI p = _
      rw [pk_mul]
      rfl
    unfold wpX_exit
    dsimp only
    rw [kp, cw_z0]
    refine br_f (nI_pos (by omega)) (br_t (nI_le (b := 3) (by omega) (by decide)) ⟨vp_in_nI hp (by decide), br_c (fun ha => ?_) (fun ha => ⟨vp_in_nI hp (by decide), fun a ea x ex => ⟨6, ?_⟩⟩)⟩)
    · unfold wpY_exit
      dsimp only
      rw [kp]
      exact cw_yPG hp ⟨vp_in_nI hp (by decide), br_t ha ⟨rfl, I0⟩⟩
    · rw [ep] at ex
      subst ea ex
      refine cw_ex (al2 := al) hp 5 0 rfl C S V sho us fo ho st 0 hX hE hP _ (fun C' S' V' sho' us' fo' ho' st' r j1 j2 j3 j4 j5 j6 => ?_)
      unfold wpY_exit
      dsimp only
      rw [kp]
      refine cw_yPG hp ⟨vp_in_nI hp (by decide), br_f ha ⟨6, j6 _ ⟨rfl, cw_mk ?_ j1 j2 j3⟩⟩⟩
      intro t ht h0 j hj
      by_cases q : t = p
      · rw [q]
        exact j5 j (by omega) hj
      · rw [pk_un q] at h0
        exact fun hl => hD t ht h0 j hj (j4 _ hl)
end
section
/-! total, sheets -/
theorem cw_if {c d A B : Prop} (e : c ↔ d) (f : d → A) (g : ¬ d → B) : (c → A) ∧ (¬ c → B) := ⟨fun h => f (e.mp h), fun h => g (fun z => h (e.mpr z))⟩
theorem cw_seen0 (C : Nat → Nat) : ∀ c, c < 20 → bt 0 c = decide (¬ cw_cn C c 0 = 0) := by
  intro c hc
  rw [b_0]
  exact (decide_eq_false (fun h => h rfl)).symm
theorem cw_seenU {C : Nat → Nat} {x : Int32} {e : Nat} (h : ∀ c, c < 20 → bt x c = decide (¬ cw_cn C c e = 0)) (hC : ¬ C e < 20) : ∀ c, c < 20 → bt x c = decide (¬ cw_cn C c (e + 1) = 0) := by
  intro c hc
  rw [h c hc, cw_cn_s, if_neg (by omega), Nat.add_zero]
theorem cw_seenM {C : Nat → Nat} {x : Int32} {e : Nat} (h : ∀ c, c < 20 → bt x c = decide (¬ cw_cn C c e = 0)) (hC : C e < 20) : ∀ c, c < 20 → bt (x ||| ((1 : Int32) <<< (nI (C e) &&& 31))) c = decide (¬ cw_cn C c (e + 1) = 0) := by
  intro c hc
  rw [cw_bset x (by omega) (by omega), h c hc, cw_cn_s]
  by_cases q : C e = c
  · rw [if_pos q, decide_eq_true q.symm, Bool.or_true]
    exact (decide_eq_true (by omega)).symm
  · rw [if_neg q, decide_eq_false (show ¬ c = C e from fun z => q z.symm), Bool.or_false, Nat.add_zero]
section
variable {fc hd : Int32} {al sho shr us fo sw sc ho fr tc di st op ce : Nat → Int32} {V : Nat → Nat → Int32} {C S : Nat → Nat}
theorem cw_t60a {post : Int64 → Prop} {J : Int64 → Int32 → Int32 → Prop} {x1 : Int64} {x3 : Int32} {e c : Nat} (hX : cw_X C V fc hd sho us fo sw sc ho fr di) (hc : c < 20) (K : J (x1 + cw_sm (V c) 4) (x3 ||| ((1 : Int32) <<< (nI c &&& 31))) (nI (e + 1))) :
    wX_total_60 post J x1 x3 (nI e) (nI c) 0 fc hd al sho shr us fo sw sc ho fr tc di := by
  intro y ey
  refine br_t rfl (cw_so hX hc (fun z ez w ew => ?_))
  rw [nI_1] at ew
  subst ey ez ew
  exact K
theorem cw_t60b {post : Int64 → Prop} {J : Int64 → Int32 → Int32 → Prop} {x1 : Int64} {x3 : Int32} {e c : Nat} (K : J x1 (x3 ||| ((1 : Int32) <<< (nI c &&& 31))) (nI (e + 1))) :
    wX_total_60 post J x1 x3 (nI e) (nI c) 1 fc hd al sho shr us fo sw sc ho fr tc di := by
  intro y ey
  refine br_f (by decide) (fun w ew => ?_)
  rw [nI_1] at ew
  subst ey ew
  exact K
theorem cw_t7 {post : Int64 → Prop} (hX : cw_X C V fc hd sho us fo sw sc ho fr di) (hP : cw_P C S V shr op ce) (K : post (cw_tx S (fun s => cw_sm (fun i => ce (4 * s + i)) 4) 20)) : ∀ (n e : Nat) (x1 : Int64) (x3 : Int32), e ≤ 20 → 20 - e < n →
    x1 = cw_tx S (fun s => cw_sm (fun i => ce (4 * s + i)) 4) e → (∀ c, c < 20 → bt x3 c = decide (¬ cw_cn C c e = 0)) → wX_total_7 post fc hd al sho shr us fo sw sc ho fr tc di n x1 x3 (nI e) := by
  have hEx := cw_XE hX
  intro n
  induction n with
  | zero => intro e x1 x3 _ h; omega
  | succ n ih =>
    intro e x1 x3 he hn hx hs
    refine pk_le 20 e (fun hle => ?_) (fun hlt => ⟨vp_in_nI hlt (by decide), ?_⟩)
    · have q : e = 20 := by omega
      rw [hx, q]
      exact K
    · rw [nI_clamp (by omega), hEx e hlt]
      refine br_c (fun h0 => ⟨vp_in_nI hlt (by decide), fun x5 e5 => ⟨vp_in_nI hlt (by decide), ?_⟩⟩) (fun h0 y ey => ?_)
      · have hC : C e < 20 := (cw_en_nn (by decide)).mp h0
        have hS : S e < 20 := (hP.1 e hlt).mp hC
        rw [cw_en_lt hC] at e5
        subst e5
        have hf := cw_P_fst hP hlt hC
        have hz : cw_sm (V (C e)) 4 = (fun s => cw_sm (fun i => ce (4 * s + i)) 4) (S e) := cw_sm_cg 4 (hP.2.1 e hlt hC).2.2
        have add : (shr e = 0 ∨ cw_cn C (C e) e = 0) → wX_total_60 post (wX_total_7 post fc hd al sho shr us fo sw sc ho fr tc di n) x1 x3 (nI e) (nI (C e)) 0 fc hd al sho shr us fo sw sc ho fr tc di := by
          intro z
          refine cw_t60a hX hC (ih (e + 1) _ _ (by omega) (by omega) ?_ (cw_seenM hs hC))
          rw [cw_tx_s, if_pos (And.intro hS (hf.mpr z)), hx, hz]
        refine br_c (fun h1 => add (Or.inl h1)) (fun h1 => cw_if (cw_bit x3 (by omega)) (fun h2 => add (Or.inr ?_)) (fun h2 => cw_t60b (ih (e + 1) _ _ (by omega) (by omega) ?_ (cw_seenM hs hC))))
        · rw [hs _ hC] at h2
          exact Classical.not_not.mp (of_decide_eq_false h2)
        · rw [hs _ hC] at h2
          have h3 : ¬ cw_cn C (C e) e = 0 := fun z => h2 (decide_eq_false (fun y => y z))
          rw [cw_tx_s, if_neg (fun z => (hf.mp z.2).elim h1 h3), hx, Int64.add_zero]
      · have hC : ¬ C e < 20 := fun z => h0 ((cw_en_nn (by decide)).mpr z)
        have hS : ¬ S e < 20 := fun z => hC ((hP.1 e hlt).mpr z)
        rw [nI_1] at ey
        subst ey
        refine ih (e + 1) _ _ (by omega) (by omega) ?_ (cw_seenU hs hC)
        rw [cw_tx_s, if_neg (fun z => hS z.1), hx, Int64.add_zero]
theorem cw_h49 {post : Int32 → Prop} {J : Int32 → Int32 → Int32 → Prop} {x1 x2 : Int32} {e c : Nat} (he : e < 20) (hs : sho e = nI c) (K : J x1 (x2 ||| ((1 : Int32) <<< (nI c &&& 31))) (nI (e + 1))) :
    wX_sheets_49 post J x1 x2 (nI e) fc hd al sho shr us fo sw sc ho fr tc di := by
  unfold wX_sheets_49
  rw [nI_clamp (by omega), hs]
  refine ⟨vp_in_nI he (by decide), fun y ey w ew => ?_⟩
  rw [nI_1] at ew
  subst ey ew
  exact K
theorem cw_h6 {post : Int32 → Prop} (hX : cw_X C V fc hd sho us fo sw sc ho fr di) (hP : cw_P C S V shr op ce) (K : post (nI (cw_nx S 20))) : ∀ (n e : Nat) (x1 x2 : Int32), e ≤ 20 → 20 - e < n →
    x1 = nI (cw_nx S e) → (∀ c, c < 20 → bt x2 c = decide (¬ cw_cn C c e = 0)) → wX_sheets_6 post fc hd al sho shr us fo sw sc ho fr tc di n x1 x2 (nI e) := by
  have hEx := cw_XE hX
  intro n
  induction n with
  | zero => intro e x1 x2 _ h; omega
  | succ n ih =>
    intro e x1 x2 he hn hx hs
    refine pk_le 20 e (fun hle => ?_) (fun hlt => ⟨vp_in_nI hlt (by decide), ?_⟩)
    · have q : e = 20 := by omega
      rw [hx, q]
      exact K
    · rw [nI_clamp (by omega), hEx e hlt]
      refine br_c (fun h0 => ⟨vp_in_nI hlt (by decide), ?_⟩) (fun h0 y ey => ?_)
      · have hC : C e < 20 := (cw_en_nn (by decide)).mp h0
        have hS : S e < 20 := (hP.1 e hlt).mp hC
        have es : sho e = nI (C e) := by rw [hEx e hlt]; exact cw_en_lt hC
        rw [cw_en_lt hC]
        have hf := cw_P_fst hP hlt hC
        have add : (shr e = 0 ∨ cw_cn C (C e) e = 0) → wX_sheets_46 post (wX_sheets_6 post fc hd al sho shr us fo sw sc ho fr tc di n) x1 x2 (nI e) fc hd al sho shr us fo sw sc ho fr tc di := by
          intro z y ey
          refine cw_h49 hlt es (ih (e + 1) _ _ (by omega) (by omega) ?_ (cw_seenM hs hC))
          rw [cw_nx_s, if_pos (And.intro hS (hf.mpr z)), ey, hx, nI_1]
        refine br_c (fun h1 => add (Or.inl h1)) (fun h1 => ⟨vp_in_nI hlt (by decide), cw_if (cw_bit x2 (by omega)) (fun h2 => add (Or.inr ?_)) (fun h2 => cw_h49 hlt es (ih (e + 1) _ _ (by omega) (by omega) ?_ (cw_seenM hs hC)))⟩)
        · rw [hs _ hC] at h2
          exact Classical.not_not.mp (of_decide_eq_false h2)
        · rw [hs _ hC] at h2
          have h3 : ¬ cw_cn C (C e) e = 0 := fun z => h2 (decide_eq_false (fun y => y z))
          rw [cw_nx_s, if_neg (fun z => (hf.mp z.2).elim h1 h3), hx, Nat.add_zero]
      · have hC : ¬ C e < 20 := fun z => h0 ((cw_en_nn (by decide)).mpr z)
        have hS : ¬ S e < 20 := fun z => hC ((hP.1 e hlt).mpr z)
        rw [nI_1] at ey
        subst ey
        refine ih (e + 1) _ _ (by omega) (by omega) ?_ (cw_seenU hs hC)
        rw [cw_nx_s, if_neg (fun z => hS z.1), hx, Nat.add_zero]
end
theorem i_vc_total {k : Nat} {u : SX} {v : SY} (I : i_Rel k u v) (hk : k + 4 ≤ 2049) : wpX_total (fun r => wpY_total (fun r' => r' = r ∧ i_Rel (k + 4) u v) v) u := by
  obtain ⟨fc, hd, al, sho, shr, us, fo, sw, sc, ho, fr, tc, di⟩ := u
  obtain ⟨al', st, op, ce⟩ := v
  have I0 := I
  obtain ⟨rfl, C, S, V, hD, hX, hE, hP⟩ := I
  exact ⟨21, cw_t7 hX hP (cw_yt hE ⟨(cw_txy _ _ _).symm, I0⟩) 21 0 0 0 (by omega) (by omega) rfl (cw_seen0 C)⟩
theorem i_vc_sheets {k : Nat} {u : SX} {v : SY} (I : i_Rel k u v) (hk : k + 4 ≤ 2049) : wpX_sheets (fun r => wpY_sheets (fun r' => r' = r ∧ i_Rel (k + 4) u v) v) u := by
  obtain ⟨fc, hd, al, sho, shr, us, fo, sw, sc, ho, fr, tc, di⟩ := u
  obtain ⟨al', st, op, ce⟩ := v
  have I0 := I
  obtain ⟨rfl, C, S, V, hD, hX, hE, hP⟩ := I
  exact ⟨21, cw_h6 hX hP (cw_yh hE ⟨by rw [cw_nxy], I0⟩) 21 0 0 0 (by omega) (by omega) rfl (cw_seen0 C)⟩
end
