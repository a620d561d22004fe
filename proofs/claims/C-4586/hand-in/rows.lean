section
/-! rows of kit/rows (BITS, PURE-ROWS), pasted as they stand there: a starting text -/
def bt (x : Int32) (i : Nat) : Bool := x.toBitVec.getLsbD i
theorem b_ext {x y : Int32} (h : ∀ i, i < 32 → bt x i = bt y i) : x = y := Int32.toBitVec_inj.mp (BitVec.eq_of_getLsbD_eq (fun i hi => h i hi))
theorem b_or (x y : Int32) (i : Nat) : bt (x ||| y) i = (bt x i || bt y i) := by unfold bt; rw [Int32.toBitVec_or, BitVec.getLsbD_or]
theorem b_and (x y : Int32) (i : Nat) : bt (x &&& y) i = (bt x i && bt y i) := by unfold bt; rw [Int32.toBitVec_and, BitVec.getLsbD_and]
theorem b_xor (x y : Int32) (i : Nat) : bt (x ^^^ y) i = (bt x i ^^ bt y i) := by unfold bt; rw [Int32.toBitVec_xor, BitVec.getLsbD_xor]
theorem b_big {x : Int32} {i : Nat} (h : 32 ≤ i) : bt x i = false := BitVec.getLsbD_of_ge _ _ h
theorem b_m1 : ∀ i, i < 32 → bt (-1) i = true := by decide +kernel
theorem b_0 (i : Nat) : bt 0 i = false := BitVec.getLsbD_zero
theorem s_l : ∀ n, n < 32 → ((nI n &&& 31).toBitVec.smod 32).toNat = n := by decide +kernel
theorem b_shl (n : Nat) (hn : n < 32) (x : Int32) {i : Nat} (hi : i < 32) : bt (x <<< (nI n &&& 31)) i = (decide (n ≤ i) && bt x (i - n)) := by
  unfold bt
  rw [Int32.toBitVec_shiftLeft]
  show (x.toBitVec <<< ((nI n &&& 31).toBitVec.smod 32).toNat).getLsbD i = _
  rw [s_l n hn, BitVec.getLsbD_shiftLeft]
  rcases Nat.lt_or_ge i n with h | h
  · simp [h, Nat.not_le.mpr h]
  · simp [hi, h, Nat.not_lt.mpr h]
theorem b_sshr (n : Nat) (hn : n < 32) (x : Int32) {i : Nat} (hi : i < 32) : bt (x >>> (nI n &&& 31)) i = if n + i < 32 then bt x (n + i) else bt x 31 := by
  unfold bt
  rw [Int32.toBitVec_shiftRight]
  show (x.toBitVec.sshiftRight ((nI n &&& 31).toBitVec.smod 32).toNat).getLsbD i = _
  rw [s_l n hn, BitVec.getLsbD_sshiftRight, BitVec.msb_eq_getLsbD_last]
  simp [hi]
theorem pk_us {f : Nat → Int32} {k : Nat} {x : Int32} : upd f k x k = x := if_pos rfl
theorem pk_un {f : Nat → Int32} {k j : Nat} {x : Int32} (h : j ≠ k) : upd f k x j = f j := if_neg h
theorem pk_sub {a b : Nat} (h : b ≤ a) : nI a - nI b = nI (a - b) := by
  obtain ⟨c, rfl⟩ : ∃ c, a = c + b := ⟨a - b, by omega⟩
  rw [← nI_add, Int32.add_sub_cancel, Nat.add_sub_cancel]
theorem pk_m1 (n : Nat) : nI (n + 1) + (-1) = nI n := by
  rw [← nI_1, Int32.add_assoc, show (1 : Int32) + (-1) = 0 from rfl, Int32.add_zero]
theorem pk_mul (a b : Nat) : nI a * nI b = nI (a * b) := (Int32.ofNat_mul a b).symm
theorem pk_div {a d : Nat} (ha : a < 2 ^ 31) (h0 : 0 < d) (hd : d < 2 ^ 31) : nI a / nI d = nI (a / d) := by
  apply Int32.toInt_inj.mp
  rw [lg_idiv_nonneg (by rw [nI_toInt ha]; omega) (by rw [nI_toInt hd]; omega), nI_toInt ha, nI_toInt hd, nI_toInt (Nat.lt_of_le_of_lt (Nat.div_le_self a d) ha)]
  first | rfl | exact (Int.natCast_ediv _ _).symm
theorem pk_rem {a d : Nat} (ha : a < 2 ^ 31) (h0 : 0 < d) (hd : d < 2 ^ 31) : nI a - nI a / nI d * nI d = nI (a % d) := by
  rw [pk_div ha h0 hd, pk_mul, pk_sub (Nat.div_mul_le_self a d)]
  exact congrArg nI (by have := Nat.div_add_mod' a d; omega)
theorem pk_sub_toInt {a b : Nat} (ha : a < 2 ^ 30) (hb : b < 2 ^ 30) : (nI a - nI b).toInt = (a : Int) - b := by
  rw [Int32.toInt_sub, nI_toInt (by omega), nI_toInt (by omega)]
  exact Int.bmod_eq_of_le (by omega) (by omega)
theorem pk_ix (x : Int32) {n : Nat} (hn : n < 2 ^ 31) : x < 0 ∨ nI n ≤ x ∨ ∃ j : Nat, j < n ∧ x = nI j := by
  by_cases h : x < 0
  · exact Or.inl h
  · obtain ⟨j, hj, rfl⟩ := nI_of h
    by_cases h2 : j < n
    · exact Or.inr (Or.inr ⟨j, h2, rfl⟩)
    · exact Or.inr (Or.inl (nI_le (by omega) hj))
theorem pk_le {x y : Int32} {A B : Prop} (a b : Nat) (f : a ≤ b → A) (g : b < a → B) (hx : x = nI a := by rfl) (hy : y = nI b := by rfl) (ha : a < 2 ^ 31 := by omega) (hb : b < 2 ^ 31 := by omega) : (x ≤ y → A) ∧ (¬ x ≤ y → B) := by
  subst hx hy
  rw [nI_leI ha hb]
  exact ⟨f, fun z => g (by omega)⟩
theorem pk_lt {x y : Int32} {A B : Prop} (a b : Nat) (f : a < b → A) (g : b ≤ a → B) (hx : x = nI a := by rfl) (hy : y = nI b := by rfl) (ha : a < 2 ^ 31 := by omega) (hb : b < 2 ^ 31 := by omega) : (x < y → A) ∧ (¬ x < y → B) := by
  subst hx hy
  rw [nI_ltI ha hb]
  exact ⟨f, fun z => g (by omega)⟩
theorem pk_eq {x y : Int32} {A B : Prop} (a b : Nat) (f : a = b → A) (g : a ≠ b → B) (hx : x = nI a := by rfl) (hy : y = nI b := by rfl) (ha : a < 2 ^ 31 := by omega) (hb : b < 2 ^ 31 := by omega) : (x = y → A) ∧ (¬ x = y → B) := by
  subst hx hy
  rw [nI_eq ha hb]
  exact ⟨f, g⟩
theorem pk_in {x : Int32} (n N : Nat) (h : n < N) (hx : x = nI n := by rfl) (hN : N < 2 ^ 31 := by omega) : vp_in x N := by
  subst hx
  exact vp_in_nI h hN
theorem pk_cl {x : Int32} (n : Nat) (hx : x = nI n := by rfl) (h : n < 2 ^ 31 := by omega) : x.toNatClampNeg = n := by
  subst hx
  exact nI_clamp h
theorem pk_tn {n : Nat} (h : n < 2 ^ 32) : (nI n).toBitVec.toNat = n := Nat.mod_eq_of_lt h
theorem pk_and (x : Int32) {m : Int32} (k : Nat) (hm : m.toBitVec.toNat = 2 ^ k - 1) : x &&& m = nI (x.toBitVec.toNat % 2 ^ k) := by
  apply Int32.toBitVec_inj.mp
  apply BitVec.eq_of_toNat_eq
  rw [Int32.toBitVec_and, BitVec.toNat_and, hm, Nat.and_two_pow_sub_one_eq_mod]
  show _ = (BitVec.ofNat 32 _).toNat
  rw [BitVec.toNat_ofNat]
  exact (Nat.mod_eq_of_lt (Nat.lt_of_le_of_lt (Nat.mod_le _ _) x.toBitVec.isLt)).symm
theorem pk_vb (z : Int32) : vp_nar .byte z.toInt8.toInt32 = z.toInt8.toInt32 := by rw [vp_nar_byte]; simp
theorem pk_vs (z : Int32) : vp_nar .short z.toInt16.toInt32 = z.toInt16.toInt32 := by rw [vp_nar_short]; simp
theorem pk_loop {σ : Type} (W : Nat → Nat → σ → Prop) (I : Nat → σ → Prop) (e i0 : Nat) (s : σ) (hi : i0 ≤ e) (h0 : I i0 s) (hx : ∀ n s, I e s → W (n + 1) e s)
    (hs : ∀ n i s, i < e → I i s → (∀ s', I (i + 1) s' → W n (i + 1) s') → W (n + 1) i s) : ∃ n, W n i0 s :=
  ⟨e + 1, loop_i W I e hx hs (e + 1) i0 s hi (by omega) h0⟩
theorem pk_loopD {σ : Type} (W : Nat → Nat → σ → Prop) (I : Nat → σ → Prop) (hx : ∀ n s, I 0 s → W (n + 1) 0 s)
    (hs : ∀ n i s, I (i + 1) s → (∀ s', I i s' → W n i s') → W (n + 1) (i + 1) s) : ∀ (e : Nat) (s : σ), I e s → W (e + 1) e s := by
  intro e
  induction e with
  | zero => exact fun s h => hx 0 s h
  | succ e ih => exact fun s h => hs (e + 1) e s h (fun s' h' => ih s' h')
theorem pk_least (P : Nat → Prop) (h : ∃ k, P k) : ∃ k, P k ∧ ∀ j, j < k → ¬ P j := by
  obtain ⟨k, hk⟩ := h
  induction k using Nat.strongRecOn with
  | ind k ih =>
    by_cases e : ∃ j, j < k ∧ P j
    · obtain ⟨j, hj, pj⟩ := e
      exact ih j hj pj
    · exact ⟨k, hk, fun j hj pj => e ⟨j, hj, pj⟩⟩
theorem ek_if {c d A B : Prop} (e : c ↔ d) (f : d → A) (g : ¬ d → B) : (c → A) ∧ (¬ c → B) :=
  ⟨fun z => f (e.mp z), fun z => g (fun y => z (e.mpr y))⟩
end
section
/-! ===== reach: the least set that holds x and is closed under A ===== -/
section
variable {A B : Nat → Nat → Prop}
def gr_R (A : Nat → Nat → Prop) (x y : Nat) : Prop := ∀ S : Nat → Prop, S x → (∀ a b, S a → A a b → S b) → S y
theorem gr_refl (x : Nat) : gr_R A x x := fun _ h _ => h
theorem gr_step {x a b : Nat} (h : gr_R A x a) (hab : A a b) : gr_R A x b := fun S hx hs => hs a b (h S hx hs) hab
theorem gr_one {a b : Nat} (h : A a b) : gr_R A a b := gr_step (gr_refl a) h
theorem gr_trans {x y z : Nat} (h : gr_R A x y) (k : gr_R A y z) : gr_R A x z := fun S hx hs => k S (h S hx hs) hs
theorem gr_mono (hAB : ∀ a b, A a b → B a b) {x y : Nat} (h : gr_R A x y) : gr_R B x y := fun S hx hs => h S hx (fun a b sa ab => hs a b sa (hAB a b ab))
theorem gr_bind (hAB : ∀ a b, A a b → gr_R B a b) {x y : Nat} (h : gr_R A x y) : gr_R B x y := h (gr_R B x) (gr_refl x) (fun a b sa ab => gr_trans sa (hAB a b ab))
theorem gr_sym (hs : ∀ a b, A a b → A b a) {x y : Nat} (h : gr_R A x y) : gr_R A y x := h (fun z => gr_R A z x) (gr_refl x) (fun a b sa ab => gr_trans (gr_one (hs a b ab)) sa)
/-- a set that holds x, closed under A, holds all that x reaches -/
theorem gr_cl {S : Nat → Prop} {x y : Nat} (h : gr_R A x y) (hx : S x) (hs : ∀ a b, S a → A a b → S b) : S y := h S hx hs
theorem gr_lt (hb : ∀ a b, A a b → a < 12 ∧ b < 12) {x y : Nat} (hx : x < 12) (h : gr_R A x y) : y < 12 := gr_cl (S := fun z => z < 12) h hx (fun a b _ ab => (hb a b ab).2)
/-! ===== one edge more, one less ===== -/
def gr_uv (u v a b : Nat) : Prop := (a = u ∧ b = v) ∨ (a = v ∧ b = u)
def gr_pl (A : Nat → Nat → Prop) (u v : Nat) : Nat → Nat → Prop := fun a b => A a b ∨ gr_uv u v a b
def gr_mi (A : Nat → Nat → Prop) (u v : Nat) : Nat → Nat → Prop := fun a b => A a b ∧ ¬ gr_uv u v a b
theorem gr_uvs {u v a b : Nat} (h : gr_uv u v a b) : gr_uv u v b a := by
  rcases h with ⟨h1, h2⟩ | ⟨h1, h2⟩
  · exact Or.inr ⟨h2, h1⟩
  · exact Or.inl ⟨h2, h1⟩
theorem gr_uvt {u v a b : Nat} (h : gr_uv u v a b) : gr_uv v u a b := by
  rcases h with ⟨h1, h2⟩ | ⟨h1, h2⟩
  · exact Or.inr ⟨h1, h2⟩
  · exact Or.inl ⟨h1, h2⟩
theorem gr_uv1 (u v : Nat) : gr_uv u v u v := Or.inl ⟨rfl, rfl⟩
theorem gr_uv2 (u v : Nat) : gr_uv u v v u := Or.inr ⟨rfl, rfl⟩
theorem gr_plc (u v : Nat) : gr_pl A u v = gr_pl A v u := by
  funext a b
  exact propext ⟨fun h => h.imp id gr_uvt, fun h => h.imp id gr_uvt⟩
theorem gr_pls (hs : ∀ a b, A a b → A b a) (u v : Nat) : ∀ a b, gr_pl A u v a b → gr_pl A u v b a := fun a b h => h.imp (hs a b) gr_uvs
theorem gr_mis (hs : ∀ a b, A a b → A b a) (u v : Nat) : ∀ a b, gr_mi A u v a b → gr_mi A u v b a := fun a b h => ⟨hs a b h.1, fun z => h.2 (gr_uvs z)⟩
theorem gr_pm {u v : Nat} (h1 : A u v) (h2 : A v u) : gr_pl (gr_mi A u v) u v = A := by
  funext a b
  refine propext ⟨?_, ?_⟩
  · rintro (h | ⟨rfl, rfl⟩ | ⟨rfl, rfl⟩)
    · exact h.1
    · exact h1
    · exact h2
  · intro h
    by_cases z : gr_uv u v a b
    · exact Or.inr z
    · exact Or.inl ⟨h, z⟩
theorem gr_mp {u v : Nat} (h1 : ¬ A u v) (h2 : ¬ A v u) : gr_mi (gr_pl A u v) u v = A := by
  funext a b
  refine propext ⟨?_, ?_⟩
  · rintro ⟨h | h, z⟩
    · exact h
    · exact absurd h z
  · intro h
    refine ⟨Or.inl h, ?_⟩
    rintro (⟨rfl, rfl⟩ | ⟨rfl, rfl⟩)
    · exact h1 h
    · exact h2 h
theorem gr_split {u v x y : Nat} (h : gr_R (gr_pl A u v) x y) : gr_R A x y ∨ (gr_R A x u ∧ gr_R A v y) ∨ (gr_R A x v ∧ gr_R A u y) := by
  refine gr_cl (S := fun y => gr_R A x y ∨ (gr_R A x u ∧ gr_R A v y) ∨ (gr_R A x v ∧ gr_R A u y)) h (Or.inl (gr_refl x)) ?_
  intro a b sa ab
  rcases ab with ab | ⟨e1, e2⟩ | ⟨e1, e2⟩
  · rcases sa with s | ⟨s, t⟩ | ⟨s, t⟩
    · exact Or.inl (gr_step s ab)
    · exact Or.inr (Or.inl ⟨s, gr_step t ab⟩)
    · exact Or.inr (Or.inr ⟨s, gr_step t ab⟩)
  · rw [e1] at sa
    rw [e2]
    rcases sa with s | ⟨s, t⟩ | ⟨s, t⟩
    · exact Or.inr (Or.inl ⟨s, gr_refl _⟩)
    · exact Or.inr (Or.inl ⟨s, gr_refl _⟩)
    · exact Or.inl s
  · rw [e1] at sa
    rw [e2]
    rcases sa with s | ⟨s, t⟩ | ⟨s, t⟩
    · exact Or.inr (Or.inr ⟨s, gr_refl _⟩)
    · exact Or.inl s
    · exact Or.inr (Or.inr ⟨s, gr_refl _⟩)
/-! ===== forests: every edge is a bridge ===== -/
def gr_F (A : Nat → Nat → Prop) : Prop := ∀ a b, A a b → ¬ gr_R (gr_mi A a b) a b
theorem gr_Fm (h : gr_F A) (hB : ∀ a b, B a b → A a b) : gr_F B := fun a b ab r => h a b (hB a b ab) (gr_mono (fun c d cd => ⟨hB c d cd.1, cd.2⟩) r)
theorem gr_Fp {u v : Nat} (hs : ∀ a b, A a b → A b a) (h : gr_F A) (hn : ¬ gr_R A u v) : gr_F (gr_pl A u v) := by
  intro a b ab r
  by_cases z : gr_uv u v a b
  · have hm : ∀ c d, gr_mi (gr_pl A u v) a b c d → A c d := by
      rintro c d ⟨h1 | h1, h2⟩
      · exact h1
      · exfalso
        apply h2
        rcases z with ⟨rfl, rfl⟩ | ⟨rfl, rfl⟩
        · exact h1
        · exact gr_uvt h1
    have r' := gr_mono hm r
    rcases z with ⟨rfl, rfl⟩ | ⟨rfl, rfl⟩
    · exact hn r'
    · exact hn (gr_sym hs r')
  · have ab' : A a b := by
      rcases ab with h1 | h1
      · exact h1
      · exact absurd h1 z
    have hm : ∀ c d, gr_mi (gr_pl A u v) a b c d → gr_pl (gr_mi A a b) u v c d := by
      rintro c d ⟨h1 | h1, h2⟩
      · exact Or.inl ⟨h1, h2⟩
      · exact Or.inr h1
    have hi : ∀ c d, gr_mi A a b c d → A c d := fun c d h => h.1
    rcases gr_split (gr_mono hm r) with r | ⟨r1, r2⟩ | ⟨r1, r2⟩
    · exact h a b ab' r
    · have q1 := gr_sym hs (gr_mono hi r1)
      have q2 := gr_sym hs (gr_mono hi r2)
      exact hn (gr_trans (gr_step q1 ab') q2)
    · have q1 := gr_mono hi r1
      have q2 := gr_mono hi r2
      exact hn (gr_trans (gr_step q2 (hs a b ab')) q1)
end
/-! ===== counts ===== -/
noncomputable def gr_b (p : Prop) : Nat := @ite Nat p (Classical.propDecidable p) 1 0
theorem gr_b1 {p : Prop} (h : p) : gr_b p = 1 := by unfold gr_b; exact if_pos h
theorem gr_b0 {p : Prop} (h : ¬ p) : gr_b p = 0 := by unfold gr_b; exact if_neg h
theorem gr_bl (p : Prop) : gr_b p ≤ 1 := by
  by_cases h : p
  · rw [gr_b1 h]; exact Nat.le_refl 1
  · rw [gr_b0 h]; exact Nat.zero_le 1
theorem gr_bm {p q : Prop} (h : p → q) : gr_b p ≤ gr_b q := by
  by_cases hp : p
  · rw [gr_b1 hp, gr_b1 (h hp)]; exact Nat.le_refl 1
  · rw [gr_b0 hp]; exact Nat.zero_le _
theorem gr_be {p q : Prop} (h : p ↔ q) : gr_b p = gr_b q := by rw [propext h]
noncomputable def gr_c (P : Nat → Prop) : Nat → Nat
  | 0 => 0
  | n + 1 => gr_c P n + gr_b (P n)
theorem gr_cs (P : Nat → Prop) (n : Nat) : gr_c P (n + 1) = gr_c P n + gr_b (P n) := rfl
theorem gr_c0 (P : Nat → Prop) : gr_c P 0 = 0 := rfl
theorem gr_cle (P : Nat → Prop) (n : Nat) : gr_c P n ≤ n := by
  induction n with
  | zero => exact Nat.le_refl 0
  | succ n ih =>
    rw [gr_cs]
    have := gr_bl (P n)
    omega
theorem gr_cm {P Q : Nat → Prop} {n : Nat} (h : ∀ x, x < n → P x → Q x) : gr_c P n ≤ gr_c Q n := by
  induction n with
  | zero => exact Nat.le_refl 0
  | succ n ih =>
    rw [gr_cs, gr_cs]
    have h1 := ih (fun x hx => h x (by omega))
    have h2 := gr_bm (h n (by omega))
    omega
theorem gr_ce {P Q : Nat → Prop} {n : Nat} (h : ∀ x, x < n → (P x ↔ Q x)) : gr_c P n = gr_c Q n :=
  Nat.le_antisymm (gr_cm fun x hx => (h x hx).mp) (gr_cm fun x hx => (h x hx).mpr)
theorem gr_c1 {P Q : Nat → Prop} {n m : Nat} (hm : m < n) (hq : Q m) (hp : ¬ P m) (h : ∀ x, x < n → x ≠ m → (P x ↔ Q x)) : gr_c Q n = gr_c P n + 1 := by
  induction n with
  | zero => omega
  | succ n ih =>
    rw [gr_cs, gr_cs]
    by_cases z : m = n
    · subst z
      rw [gr_b1 hq, gr_b0 hp, gr_ce (P := P) (Q := Q) (fun x hx => h x (by omega) (by omega))]
    · rw [ih (by omega) (fun x hx => h x (by omega)), gr_be (h n (by omega) (fun e => z e.symm))]
      omega
theorem gr_clt {P Q : Nat → Prop} {n m : Nat} (hm : m < n) (hq : Q m) (hp : ¬ P m) (h : ∀ x, x < n → P x → Q x) : gr_c P n + 1 ≤ gr_c Q n := by
  induction n with
  | zero => omega
  | succ n ih =>
    rw [gr_cs, gr_cs]
    by_cases z : m = n
    · subst z
      have h1 := gr_cm (P := P) (Q := Q) (n := m) (fun x hx => h x (by omega))
      rw [gr_b1 hq, gr_b0 hp]
      omega
    · have h1 := ih (by omega) (fun x hx => h x (by omega))
      have h2 := gr_bm (h n (by omega))
      omega
theorem gr_cd {P Q R : Nat → Prop} {n : Nat} (hP : ∀ x, x < n → P x → R x) (hQ : ∀ x, x < n → Q x → R x) (hd : ∀ x, x < n → P x → Q x → False) : gr_c P n + gr_c Q n ≤ gr_c R n := by
  induction n with
  | zero => exact Nat.le_refl 0
  | succ n ih =>
    have h1 := ih (fun x hx => hP x (by omega)) (fun x hx => hQ x (by omega)) (fun x hx => hd x (by omega))
    rw [gr_cs, gr_cs, gr_cs]
    by_cases p : P n
    · have q : ¬ Q n := hd n (by omega) p
      rw [gr_b1 p, gr_b0 q, gr_b1 (hP n (by omega) p)]
      omega
    · rw [gr_b0 p]
      have h2 := gr_bm (hQ n (by omega))
      omega
theorem gr_cz {P : Nat → Prop} {n : Nat} (h : ∀ x, x < n → ¬ P x) : gr_c P n = 0 := by
  induction n with
  | zero => rfl
  | succ n ih => rw [gr_cs, ih (fun x hx => h x (by omega)), gr_b0 (h n (by omega))]
theorem gr_ca {P : Nat → Prop} {n : Nat} (h : ∀ x, x < n → P x) : gr_c P n = n := by
  induction n with
  | zero => rfl
  | succ n ih => rw [gr_cs, ih (fun x hx => h x (by omega)), gr_b1 (h n (by omega))]
theorem gr_cp {P : Nat → Prop} {n m : Nat} (hm : m < n) (h : P m) : 1 ≤ gr_c P n := by
  have := gr_clt (P := fun _ => False) (Q := P) hm h (fun z => z) (fun _ _ z => z.elim)
  omega
theorem gr_c2 {P : Nat → Prop} {n a b : Nat} (ha : a < n) (hb : b < n) (hab : a ≠ b) (pa : P a) (pb : P b) : 2 ≤ gr_c P n := by
  have h1 := gr_cp (P := fun x => P x ∧ x ≠ b) (n := n) ha ⟨pa, hab⟩
  have h2 := gr_clt (P := fun x => P x ∧ x ≠ b) (Q := P) hb pb (fun z => z.2 rfl) (fun _ _ z => z.1)
  omega
/-! ===== the number of pieces ===== -/
section
variable {A B : Nat → Nat → Prop}
noncomputable def gr_k (A : Nat → Nat → Prop) : Nat := gr_c (fun x => ∀ y, y < x → ¬ gr_R A x y) 12
theorem gr_ke (h : ∀ x y, gr_R A x y ↔ gr_R B x y) : gr_k A = gr_k B := by
  unfold gr_k
  exact gr_ce (fun x _ => ⟨fun k y hy r => k y hy ((h x y).mpr r), fun k y hy r => k y hy ((h x y).mp r)⟩)
theorem gr_kle : gr_k A ≤ 12 := gr_cle _ _
theorem gr_root (u : Nat) : ∃ m, m ≤ u ∧ gr_R A u m ∧ ∀ y, y < m → ¬ gr_R A u y := by
  obtain ⟨m, h1, h2⟩ := pk_least (fun y => gr_R A u y) ⟨u, gr_refl u⟩
  refine ⟨m, ?_, h1, h2⟩
  rcases Nat.lt_or_ge u m with z | z
  · exact absurd (gr_refl u) (h2 u z)
  · exact z
theorem gr_kp0 {u v mu mv : Nat} (hs : ∀ a b, A a b → A b a) (hv : v < 12) (h1 : mv ≤ v) (ru : gr_R A u mu) (lu : ∀ y, y < mu → ¬ gr_R A u y) (rv : gr_R A v mv) (lv : ∀ y, y < mv → ¬ gr_R A v y) (hm : mu < mv) : gr_k A = gr_k (gr_pl A u v) + 1 := by
  have hi : ∀ a b, A a b → gr_pl A u v a b := fun a b h => Or.inl h
  have e : gr_R (gr_pl A u v) v u := gr_one (Or.inr (gr_uv2 u v))
  unfold gr_k
  refine gr_c1 (m := mv) (by omega) ?_ ?_ ?_
  · intro y hy r
    exact lv y hy (gr_trans rv r)
  · intro h
    exact h mu hm (gr_trans (gr_trans (gr_sym (gr_pls hs u v) (gr_mono hi rv)) e) (gr_mono hi ru))
  · intro x hx hxm
    refine ⟨fun k y hy r => k y hy (gr_mono hi r), fun k y hy r => ?_⟩
    rcases gr_split r with r | ⟨r1, r2⟩ | ⟨r1, r2⟩
    · exact k y hy r
    · have a1 : ¬ mu < x := fun z => k mu z (gr_trans r1 ru)
      have a3 : ¬ y < mv := fun z => lv y z r2
      omega
    · have a1 : ¬ mv < x := fun z => k mv z (gr_trans r1 rv)
      have a2 : ¬ x < mv := fun z => lv x z (gr_sym hs r1)
      omega
theorem gr_kp {u v : Nat} (hs : ∀ a b, A a b → A b a) (hu : u < 12) (hv : v < 12) (hn : ¬ gr_R A u v) : gr_k A = gr_k (gr_pl A u v) + 1 := by
  obtain ⟨mu, h1, ru, lu⟩ := gr_root (A := A) u
  obtain ⟨mv, h2, rv, lv⟩ := gr_root (A := A) v
  rcases Nat.lt_trichotomy mu mv with z | z | z
  · exact gr_kp0 hs hv h2 ru lu rv lv z
  · subst z
    exact absurd (gr_trans ru (gr_sym hs rv)) hn
  · rw [gr_plc]
    exact gr_kp0 hs hu h1 rv lv ru lu z
/-- an edge between two ends that are connected changes no reach -/
theorem gr_same {u v : Nat} (hs : ∀ a b, A a b → A b a) (h : gr_R A u v) (x y : Nat) : gr_R (gr_pl A u v) x y ↔ gr_R A x y := by
  refine ⟨gr_bind ?_, gr_mono (fun a b h => Or.inl h)⟩
  rintro a b (ab | ⟨rfl, rfl⟩ | ⟨rfl, rfl⟩)
  · exact gr_one ab
  · exact h
  · exact gr_sym hs h
/-! ===== the number of edges, twice ===== -/
def gr_s (f : Nat → Nat) : Nat → Nat
  | 0 => 0
  | n + 1 => gr_s f n + f n
theorem gr_ss (f : Nat → Nat) (n : Nat) : gr_s f (n + 1) = gr_s f n + f n := rfl
theorem gr_se {f g : Nat → Nat} {n : Nat} (h : ∀ x, x < n → f x = g x) : gr_s f n = gr_s g n := by
  induction n with
  | zero => rfl
  | succ n ih => rw [gr_ss, gr_ss, ih (fun x hx => h x (by omega)), h n (by omega)]
theorem gr_s1 {f g : Nat → Nat} {n m : Nat} (hm : m < n) (e : g m = f m + 1) (h : ∀ x, x < n → x ≠ m → f x = g x) : gr_s g n = gr_s f n + 1 := by
  induction n with
  | zero => omega
  | succ n ih =>
    rw [gr_ss, gr_ss]
    by_cases z : m = n
    · subst z
      rw [e, gr_se (f := f) (g := g) (fun x hx => h x (by omega) (by omega))]
      omega
    · rw [ih (by omega) (fun x hx => h x (by omega)), h n (by omega) (fun q => z q.symm)]
      omega
noncomputable def gr_e (A : Nat → Nat → Prop) : Nat := gr_s (fun x => gr_c (A x) 12) 12
theorem gr_ep {u v : Nat} (hu : u < 12) (hv : v < 12) (huv : u ≠ v) (h1 : ¬ A u v) (h2 : ¬ A v u) : gr_e (gr_pl A u v) = gr_e A + 2 := by
  have cu : gr_c (gr_pl A u v u) 12 = gr_c (A u) 12 + 1 := by
    refine gr_c1 hv (Or.inr (gr_uv1 u v)) h1 ?_
    intro x hx hxv
    refine ⟨Or.inl, ?_⟩
    rintro (h | ⟨_, h⟩ | ⟨h, _⟩)
    · exact h
    · exact absurd h hxv
    · exact absurd h huv
  have cv : gr_c (gr_pl A u v v) 12 = gr_c (A v) 12 + 1 := by
    refine gr_c1 hu (Or.inr (gr_uv2 u v)) h2 ?_
    intro x hx hxu
    refine ⟨Or.inl, ?_⟩
    rintro (h | ⟨h, _⟩ | ⟨_, h⟩)
    · exact h
    · exact absurd h.symm huv
    · exact absurd h hxu
  have co : ∀ x, x ≠ u → x ≠ v → gr_c (A x) 12 = gr_c (gr_pl A u v x) 12 := by
    intro x hxu hxv
    refine gr_ce (fun y _ => ⟨Or.inl, ?_⟩)
    rintro (h | ⟨h, _⟩ | ⟨h, _⟩)
    · exact h
    · exact absurd h hxu
    · exact absurd h hxv
  have s1 : gr_s (fun x => if x = u then gr_c (gr_pl A u v u) 12 else gr_c (A x) 12) 12 = gr_s (fun x => gr_c (A x) 12) 12 + 1 := by
    refine gr_s1 hu ?_ ?_
    · show (if u = u then _ else _) = _
      rw [if_pos rfl]
      exact cu
    · intro x hx hxu
      show _ = (if x = u then _ else _)
      rw [if_neg hxu]
  have s2 : gr_s (fun x => gr_c (gr_pl A u v x) 12) 12 = gr_s (fun x => if x = u then gr_c (gr_pl A u v u) 12 else gr_c (A x) 12) 12 + 1 := by
    refine gr_s1 hv ?_ ?_
    · show _ = (if v = u then _ else _) + 1
      rw [if_neg (fun q => huv q.symm)]
      exact cv
    · intro x hx hxv
      show (if x = u then _ else _) = _
      by_cases z : x = u
      · rw [if_pos z, z]
      · rw [if_neg z]
        exact co x z hxv
  unfold gr_e
  rw [s2, s1]
/-! ===== plain graphs on twelve points ===== -/
def gr_ok (A : Nat → Nat → Prop) : Prop := (∀ a b, A a b → A b a) ∧ (∀ a b, A a b → a < 12 ∧ b < 12 ∧ a ≠ b)
theorem gr_okp {u v : Nat} (h : gr_ok A) (hu : u < 12) (hv : v < 12) (huv : u ≠ v) : gr_ok (gr_pl A u v) := by
  refine ⟨gr_pls h.1 u v, ?_⟩
  rintro a b (ab | ⟨rfl, rfl⟩ | ⟨rfl, rfl⟩)
  · exact h.2 a b ab
  · exact ⟨hu, hv, huv⟩
  · exact ⟨hv, hu, fun q => huv q.symm⟩
theorem gr_okm {u v : Nat} (h : gr_ok A) : gr_ok (gr_mi A u v) := ⟨gr_mis h.1 u v, fun a b ab => h.2 a b ab.1⟩
theorem gr_okl (h : gr_ok A) {x y : Nat} (hx : x < 12) (r : gr_R A x y) : y < 12 := gr_lt (fun a b ab => ⟨(h.2 a b ab).1, (h.2 a b ab).2.1⟩) hx r
theorem gr_em {u v : Nat} (h : gr_ok A) (huv : A u v) : gr_e A = gr_e (gr_mi A u v) + 2 := by
  have hb := h.2 u v huv
  have e := gr_ep (A := gr_mi A u v) hb.1 hb.2.1 hb.2.2 (fun z => z.2 (gr_uv1 u v)) (fun z => z.2 (gr_uv2 u v))
  rw [gr_pm huv (h.1 u v huv)] at e
  exact e
theorem gr_km {u v : Nat} (h : gr_ok A) (huv : A u v) (hn : ¬ gr_R (gr_mi A u v) u v) : gr_k (gr_mi A u v) = gr_k A + 1 := by
  have hb := h.2 u v huv
  have e := gr_kp (gr_mis h.1 u v) hb.1 hb.2.1 hn
  rw [gr_pm huv (h.1 u v huv)] at e
  exact e
theorem gr_ks {u v : Nat} (h : gr_ok A) (huv : A u v) (hr : gr_R (gr_mi A u v) u v) : gr_k (gr_mi A u v) = gr_k A := by
  have e := gr_ke (gr_same (gr_mis h.1 u v) hr)
  rw [gr_pm huv (h.1 u v huv)] at e
  exact e.symm
theorem gr_none (h : ∀ a b, ¬ A a b) {x y : Nat} (r : gr_R A x y) : y = x := gr_cl (S := fun z => z = x) r rfl (fun a b _ ab => absurd ab (h a b))
theorem gr_fc : ∀ (n : Nat) (A : Nat → Nat → Prop), gr_e A ≤ n → gr_ok A → gr_F A → gr_e A + 2 * gr_k A = 24 := by
  intro n
  induction n with
  | zero =>
    intro A hn ho hf
    by_cases z : ∃ u v, A u v
    · obtain ⟨u, v, huv⟩ := z
      have := gr_em ho huv
      omega
    · have hz : ∀ a b, ¬ A a b := fun a b ab => z ⟨a, b, ab⟩
      have h1 : gr_k A = 12 := gr_ca (fun x _ y hy r => by have := gr_none hz r; omega)
      omega
  | succ n ih =>
    intro A hn ho hf
    by_cases z : ∃ u v, A u v
    · obtain ⟨u, v, huv⟩ := z
      have h1 := gr_em ho huv
      have h2 := gr_km ho huv (hf u v huv)
      have h3 := ih (gr_mi A u v) (by omega) (gr_okm ho) (gr_Fm hf (fun a b ab => ab.1))
      omega
    · have hz : ∀ a b, ¬ A a b := fun a b ab => z ⟨a, b, ab⟩
      have h1 : gr_k A = 12 := gr_ca (fun x _ y hy r => by have := gr_none hz r; omega)
      have h2 : gr_e A = 0 := by
        have h3 : gr_e A = gr_s (fun _ => 0) 12 := gr_se (fun x _ => gr_cz (fun y _ => hz x y))
        rw [h3]
        rfl
      omega
end
end
section
/-! ===== edges with levels: some (i, true) a tree edge of level i, some (i, false) another edge of it ===== -/
abbrev gl_E : Type := Nat → Nat → Option (Nat × Bool)
def gl_t (e : gl_E) (i : Nat) : Nat → Nat → Prop := fun a b => ∃ j, i ≤ j ∧ e a b = some (j, true)
def gl_d (e : gl_E) : Nat → Nat → Prop := fun a b => e a b ≠ none
def gl_s (e : gl_E) (u v : Nat) (c : Option (Nat × Bool)) : gl_E := fun a b => if (a = u ∧ b = v) ∨ (a = v ∧ b = u) then c else e a b
def gl_ok (e : gl_E) : Prop := (∀ a b, e a b = e b a) ∧ (∀ a b i t, e a b = some (i, t) → a < 12 ∧ b < 12 ∧ a ≠ b ∧ i < 3)
theorem gl_inj {i j : Nat} {s t : Bool} {c : Option (Nat × Bool)} (h1 : c = some (i, s)) (h2 : c = some (j, t)) : j = i ∧ t = s := by
  rw [h1] at h2
  cases h2
  exact ⟨rfl, rfl⟩
section
variable {e e' : gl_E} {u v i j : Nat} {c : Option (Nat × Bool)}
theorem gl_s1 {a b : Nat} (h : gr_uv u v a b) : gl_s e u v c a b = c := if_pos h
theorem gl_s0 {a b : Nat} (h : ¬ gr_uv u v a b) : gl_s e u v c a b = e a b := if_neg h
theorem gl_ss (d : Option (Nat × Bool)) : gl_s (gl_s e u v d) u v c = gl_s e u v c := by
  funext a b
  by_cases h : gr_uv u v a b
  · rw [gl_s1 h, gl_s1 h]
  · rw [gl_s0 h, gl_s0 h, gl_s0 h]
theorem gl_sid (hs : ∀ a b, e a b = e b a) (h : e u v = c) : gl_s e u v c = e := by
  funext a b
  by_cases z : gr_uv u v a b
  · rw [gl_s1 z]
    rcases z with ⟨rfl, rfl⟩ | ⟨rfl, rfl⟩
    · exact h.symm
    · rw [hs]; exact h.symm
  · rw [gl_s0 z]
theorem gl_oks (h : gl_ok e) (hu : u < 12) (hv : v < 12) (huv : u ≠ v) (hc : ∀ i t, c = some (i, t) → i < 3) : gl_ok (gl_s e u v c) := by
  refine ⟨fun a b => ?_, fun a b i t q => ?_⟩
  · by_cases z : gr_uv u v a b
    · rw [gl_s1 z, gl_s1 (gr_uvs z)]
    · rw [gl_s0 z, gl_s0 (fun y => z (gr_uvs y))]
      exact h.1 a b
  · by_cases z : gr_uv u v a b
    · rw [gl_s1 z] at q
      have hi := hc i t q
      rcases z with ⟨rfl, rfl⟩ | ⟨rfl, rfl⟩
      · exact ⟨hu, hv, huv, hi⟩
      · exact ⟨hv, hu, fun y => huv y.symm, hi⟩
    · rw [gl_s0 z] at q
      exact h.2 a b i t q
theorem gl_okn (h : gl_ok e) (hu : u < 12) (hv : v < 12) (huv : u ≠ v) : gl_ok (gl_s e u v none) := gl_oks h hu hv huv (fun _ _ z => by cases z)
theorem gl_oki (h : gl_ok e) (hu : u < 12) (hv : v < 12) (huv : u ≠ v) {t : Bool} (hi : i < 3) : gl_ok (gl_s e u v (some (i, t))) := gl_oks h hu hv huv (fun j s z => by cases z; exact hi)
theorem gl_ts (h : gl_ok e) : ∀ a b, gl_t e i a b → gl_t e i b a := fun a b ⟨j, hj, q⟩ => ⟨j, hj, (h.1 b a).trans q⟩
theorem gl_tl (h : i ≤ j) : ∀ a b, gl_t e j a b → gl_t e i a b := fun a b ⟨k, hk, q⟩ => ⟨k, Nat.le_trans h hk, q⟩
theorem gl_tb (h : gl_ok e) : ∀ a b, gl_t e i a b → a < 12 ∧ b < 12 := fun a b ⟨j, _, q⟩ => ⟨(h.2 a b j true q).1, (h.2 a b j true q).2.1⟩
theorem gl_td : ∀ a b, gl_t e i a b → gl_d e a b := fun a b ⟨j, _, q⟩ z => by rw [q] at z; cases z
theorem gl_dok (h : gl_ok e) : gr_ok (gl_d e) := by
  refine ⟨fun a b z y => z ((h.1 a b).trans y), fun a b z => ?_⟩
  cases q : e a b with
  | none => exact absurd q z
  | some c =>
    have := h.2 a b c.1 c.2 q
    exact ⟨this.1, this.2.1, this.2.2.1⟩
theorem gl_dp (d : Nat × Bool) : gl_d (gl_s e u v (some d)) = gr_pl (gl_d e) u v := by
  funext a b
  refine propext ⟨fun h => ?_, fun h => ?_⟩
  · by_cases z : gr_uv u v a b
    · exact Or.inr z
    · unfold gl_d at h
      rw [gl_s0 z] at h
      exact Or.inl h
  · unfold gl_d
    by_cases z : gr_uv u v a b
    · rw [gl_s1 z]
      exact fun y => by cases y
    · rw [gl_s0 z]
      exact h.resolve_right z
theorem gl_dm : gl_d (gl_s e u v none) = gr_mi (gl_d e) u v := by
  funext a b
  refine propext ⟨fun h => ?_, fun h => ?_⟩
  · by_cases z : gr_uv u v a b
    · unfold gl_d at h
      rw [gl_s1 z] at h
      exact absurd rfl h
    · unfold gl_d at h
      rw [gl_s0 z] at h
      exact ⟨h, z⟩
  · unfold gl_d
    rw [gl_s0 h.2]
    exact h.1
/-! ===== the invariant; the same while the levels below n lack the edge u v ===== -/
def gl_a (e : gl_E) (n u v j : Nat) : Nat → Nat → Prop := fun a b => gl_t e j a b ∨ (j < n ∧ gr_uv u v a b)
def gl_I (e : gl_E) : Prop := gl_ok e ∧ gr_F (gl_t e 0) ∧ (∀ j a b, e a b = some (j, false) → gr_R (gl_t e j) a b) ∧ (∀ j a, j < 3 → 2 ^ j * gr_c (gr_R (gl_t e j) a) 12 ≤ 12)
def gl_J (e : gl_E) (n u v : Nat) : Prop := gl_ok e ∧ gr_F (gl_t e 0) ∧ (∀ j a b, e a b = some (j, false) → gr_R (gl_a e n u v j) a b) ∧ (∀ j a, j < 3 → 2 ^ j * gr_c (gr_R (gl_a e n u v j) a) 12 ≤ 12)
theorem gl_a0 {n : Nat} (h : n ≤ j) : gl_a e n u v j = gl_t e j := by
  funext a b
  exact propext ⟨fun h' => h'.resolve_right (fun z => by omega), Or.inl⟩
theorem gl_a1 {n : Nat} (h : j < n) : gl_a e n u v j = gr_pl (gl_t e j) u v := by
  funext a b
  exact propext ⟨fun h' => h'.imp id (fun z => z.2), fun h' => h'.imp id (fun z => ⟨h, z⟩)⟩
theorem gl_JI (h : gl_J e 0 u v) : gl_I e := by
  obtain ⟨h1, h2, h3, h4⟩ := h
  refine ⟨h1, h2, fun j a b q => ?_, fun j a q => ?_⟩
  · have := h3 j a b q
    rw [gl_a0 (Nat.zero_le j)] at this
    exact this
  · have := h4 j a q
    rw [gl_a0 (Nat.zero_le j)] at this
    exact this
/-- the tree edges of all levels span -/
theorem gl_span (h : gl_I e) (a b : Nat) : gr_R (gl_d e) a b ↔ gr_R (gl_t e 0) a b := by
  refine ⟨gr_bind ?_, gr_mono gl_td⟩
  intro a b ab
  cases q : e a b with
  | none => exact absurd q ab
  | some c =>
    obtain ⟨j, t⟩ := c
    cases t with
    | true => exact gr_one ⟨j, Nat.zero_le j, q⟩
    | false => exact gr_mono (gl_tl (Nat.zero_le j)) (h.2.2.1 j a b q)
/-- an edge goes -/
theorem gl_tm : gl_t (gl_s e u v none) j = gr_mi (gl_t e j) u v := by
  funext a b
  refine propext ⟨?_, ?_⟩
  · rintro ⟨k, hk, q⟩
    by_cases z : gr_uv u v a b
    · rw [gl_s1 z] at q
      cases q
    · rw [gl_s0 z] at q
      exact ⟨⟨k, hk, q⟩, z⟩
  · rintro ⟨⟨k, hk, q⟩, z⟩
    exact ⟨k, hk, (gl_s0 z).trans q⟩
theorem gl_start {f : Nat} (h : gl_I e) (q : e u v = some (f, true)) : gl_J (gl_s e u v none) (f + 1) u v ∧ ¬ gr_R (gl_t (gl_s e u v none) 0) u v := by
  obtain ⟨h1, h2, h3, h4⟩ := h
  have hb := h1.2 u v f true q
  have q' : e v u = some (f, true) := (h1.1 v u).trans q
  have ea : ∀ j, gl_a (gl_s e u v none) (f + 1) u v j = gl_t e j := by
    intro j
    by_cases hj : j ≤ f
    · rw [gl_a1 (by omega), gl_tm]
      exact gr_pm ⟨f, hj, q⟩ ⟨f, hj, q'⟩
    · rw [gl_a0 (by omega), gl_tm]
      funext a b
      refine propext ⟨fun z => z.1, fun z => ⟨z, ?_⟩⟩
      obtain ⟨k, hk, qk⟩ := z
      rintro (⟨rfl, rfl⟩ | ⟨rfl, rfl⟩)
      · rw [q] at qk
        cases qk
        omega
      · rw [q'] at qk
        cases qk
        omega
  refine ⟨⟨gl_okn h1 hb.1 hb.2.1 hb.2.2.1, ?_, fun j a b z => ?_, fun j a hj => ?_⟩, ?_⟩
  · rw [gl_tm]
    exact gr_Fm h2 (fun a b ab => ab.1)
  · rw [ea]
    by_cases y : gr_uv u v a b
    · rw [gl_s1 y] at z
      cases z
    · rw [gl_s0 y] at z
      exact h3 j a b z
  · rw [ea]
    exact h4 j a hj
  · rw [gl_tm]
    exact h2 u v ⟨f, Nat.zero_le f, q⟩
/-- an edge that is no tree edge goes -/
theorem gl_cut0 {f : Nat} (h : gl_I e) (q : e u v = some (f, false)) : gl_I (gl_s e u v none) ∧ gr_R (gl_d (gl_s e u v none)) u v := by
  obtain ⟨h1, h2, h3, h4⟩ := h
  have hb := h1.2 u v f false q
  have q' : e v u = some (f, false) := (h1.1 v u).trans q
  have et : ∀ j, gl_t (gl_s e u v none) j = gl_t e j := by
    intro j
    rw [gl_tm]
    funext a b
    refine propext ⟨fun z => z.1, fun z => ⟨z, ?_⟩⟩
    obtain ⟨k, hk, qk⟩ := z
    rintro (⟨rfl, rfl⟩ | ⟨rfl, rfl⟩)
    · rw [q] at qk
      cases qk
    · rw [q'] at qk
      cases qk
  have hI : gl_I (gl_s e u v none) := by
    refine ⟨gl_okn h1 hb.1 hb.2.1 hb.2.2.1, ?_, fun j a b z => ?_, fun j a hj => ?_⟩
    · rw [et]
      exact h2
    · rw [et]
      by_cases y : gr_uv u v a b
      · rw [gl_s1 y] at z
        cases z
      · rw [gl_s0 y] at z
        exact h3 j a b z
    · rw [et]
      exact h4 j a hj
  refine ⟨hI, (gl_span hI u v).mpr ?_⟩
  rw [et]
  exact gr_mono (gl_tl (Nat.zero_le f)) (h3 f u v q)
/-- an edge comes -/
theorem gl_tp1 (hj : j ≤ i) : gl_t (gl_s e u v (some (i, true))) j = gr_pl (gl_t e j) u v := by
  funext a b
  refine propext ⟨?_, ?_⟩
  · rintro ⟨k, hk, q⟩
    by_cases z : gr_uv u v a b
    · exact Or.inr z
    · rw [gl_s0 z] at q
      exact Or.inl ⟨k, hk, q⟩
  · rintro (⟨k, hk, q⟩ | z)
    · by_cases z : gr_uv u v a b
      · exact ⟨i, hj, gl_s1 z⟩
      · exact ⟨k, hk, (gl_s0 z).trans q⟩
    · exact ⟨i, hj, gl_s1 z⟩
theorem gl_tp0 {t : Bool} (hn : ∀ k, j ≤ k → e u v ≠ some (k, true)) (hs : ∀ a b, e a b = e b a) (hj : t = false ∨ i < j) : gl_t (gl_s e u v (some (i, t))) j = gl_t e j := by
  have hn' : ∀ k, j ≤ k → e v u ≠ some (k, true) := fun k hk q => hn k hk ((hs u v).trans q)
  funext a b
  refine propext ⟨?_, ?_⟩
  · rintro ⟨k, hk, q⟩
    by_cases z : gr_uv u v a b
    · rw [gl_s1 z] at q
      cases q
      rcases hj with hj | hj
      · cases hj
      · omega
    · rw [gl_s0 z] at q
      exact ⟨k, hk, q⟩
  · rintro ⟨k, hk, q⟩
    refine ⟨k, hk, (gl_s0 ?_).trans q⟩
    rintro (⟨rfl, rfl⟩ | ⟨rfl, rfl⟩)
    · exact hn k hk q
    · exact hn' k hk q
theorem gl_link1 (h : gl_I e) (hu : u < 12) (hv : v < 12) (huv : u ≠ v) (q : e u v = none) (hr : ¬ gr_R (gl_d e) u v) : gl_I (gl_s e u v (some (0, true))) := by
  have hr' : ¬ gr_R (gl_t e 0) u v := fun z => hr ((gl_span h u v).mpr z)
  obtain ⟨h1, h2, h3, h4⟩ := h
  have t0 := gl_tp1 (e := e) (u := u) (v := v) (i := 0) (j := 0) (Nat.le_refl 0)
  have tj : ∀ j, 0 < j → gl_t (gl_s e u v (some (0, true))) j = gl_t e j := fun j hj => gl_tp0 (fun k _ z => by rw [q] at z; cases z) h1.1 (Or.inr hj)
  refine ⟨gl_oki h1 hu hv huv (by decide), ?_, fun j a b z => ?_, fun j a hj => ?_⟩
  · rw [t0]
    exact gr_Fp (gl_ts h1) h2 hr'
  · have z' : e a b = some (j, false) := by
      by_cases y : gr_uv u v a b
      · rw [gl_s1 y] at z
        cases z
      · rw [gl_s0 y] at z
        exact z
    have r := h3 j a b z'
    rcases Nat.eq_zero_or_pos j with rfl | hj
    · rw [t0]
      exact gr_mono (fun a b ab => Or.inl ab) r
    · rw [tj j hj]
      exact r
  · rcases Nat.eq_zero_or_pos j with rfl | hj'
    · rw [Nat.pow_zero, Nat.one_mul]
      exact gr_cle _ 12
    · rw [tj j hj']
      exact h4 j a hj
theorem gl_link0 (h : gl_I e) (hu : u < 12) (hv : v < 12) (huv : u ≠ v) (q : e u v = none) (hr : gr_R (gl_d e) u v) : gl_I (gl_s e u v (some (0, false))) := by
  have hr' : gr_R (gl_t e 0) u v := (gl_span h u v).mp hr
  obtain ⟨h1, h2, h3, h4⟩ := h
  have tj : ∀ j, gl_t (gl_s e u v (some (0, false))) j = gl_t e j := fun j => gl_tp0 (fun k _ z => by rw [q] at z; cases z) h1.1 (Or.inl rfl)
  refine ⟨gl_oki h1 hu hv huv (by decide), ?_, fun j a b z => ?_, fun j a hj => ?_⟩
  · rw [tj]
    exact h2
  · rw [tj]
    by_cases y : gr_uv u v a b
    · rw [gl_s1 y] at z
      cases z
      rcases y with ⟨rfl, rfl⟩ | ⟨rfl, rfl⟩
      · exact hr'
      · exact gr_sym (gl_ts h1) hr'
    · rw [gl_s0 y] at z
      exact h3 j a b z
  · rw [tj]
    exact h4 j a hj
end
end
section
/-! ===== one level of the search for another edge: what rises keeps gl_J; then it is found, or the next level is ready ===== -/
section
variable {e e' : gl_E} {u v i p q : Nat} {S : Nat → Prop}
def gl_z (e e' : gl_E) (i : Nat) (S : Nat → Prop) : Prop := ∀ a b,
  (e' a b = e a b ∧ ¬ (S a ∧ e a b = some (i, true))) ∨ (S a ∧ e a b = some (i, true) ∧ e' a b = some (i + 1, true)) ∨ (S a ∧ S b ∧ e a b = some (i, false) ∧ e' a b = some (i + 1, false))
theorem gl_zt (hz : gl_z e e' i S) {j : Nat} (hj : j ≠ i + 1) : gl_t e' j = gl_t e j := by
  funext a b
  refine propext ⟨?_, ?_⟩
  · rintro ⟨k, hk, qk⟩
    rcases hz a b with ⟨z, _⟩ | ⟨_, z1, z2⟩ | ⟨_, _, z1, z2⟩
    · exact ⟨k, hk, z.symm.trans qk⟩
    · have := (gl_inj z2 qk).1
      exact ⟨i, by omega, z1⟩
    · exact absurd (gl_inj z2 qk).2 (by decide)
  · rintro ⟨k, hk, qk⟩
    rcases hz a b with ⟨z, _⟩ | ⟨_, z1, z2⟩ | ⟨_, _, z1, z2⟩
    · exact ⟨k, hk, z.trans qk⟩
    · have := (gl_inj z1 qk).1
      exact ⟨i + 1, by omega, z2⟩
    · exact absurd (gl_inj z1 qk).2 (by decide)
theorem gl_zt1 (hz : gl_z e e' i S) : gl_t e' (i + 1) = fun a b => gl_t e (i + 1) a b ∨ (S a ∧ e a b = some (i, true)) := by
  funext a b
  refine propext ⟨?_, ?_⟩
  · rintro ⟨k, hk, qk⟩
    rcases hz a b with ⟨z, _⟩ | ⟨s, z1, z2⟩ | ⟨_, _, z1, z2⟩
    · exact Or.inl ⟨k, hk, z.symm.trans qk⟩
    · exact Or.inr ⟨s, z1⟩
    · exact absurd (gl_inj z2 qk).2 (by decide)
  · rintro (⟨k, hk, qk⟩ | ⟨s, qk⟩)
    · rcases hz a b with ⟨z, _⟩ | ⟨_, z1, z2⟩ | ⟨_, _, z1, z2⟩
      · exact ⟨k, hk, z.trans qk⟩
      · have := (gl_inj z1 qk).1
        omega
      · exact absurd (gl_inj z1 qk).2 (by decide)
    · rcases hz a b with ⟨_, z⟩ | ⟨_, z1, z2⟩ | ⟨_, _, z1, z2⟩
      · exact absurd ⟨s, qk⟩ z
      · exact ⟨i + 1, Nat.le_refl _, z2⟩
      · exact absurd (gl_inj z1 qk).2 (by decide)
theorem gl_zd (hz : gl_z e e' i S) : gl_d e' = gl_d e := by
  funext a b
  refine propext ⟨fun h y => h ?_, fun h y => h ?_⟩
  · rcases hz a b with ⟨z, _⟩ | ⟨_, z1, z2⟩ | ⟨_, _, z1, z2⟩
    · exact z.trans y
    · rw [z1] at y
      cases y
    · rw [z1] at y
      cases y
  · rcases hz a b with ⟨z, _⟩ | ⟨_, z1, z2⟩ | ⟨_, _, z1, z2⟩
    · exact z.symm.trans y
    · rw [z2] at y
      cases y
    · rw [z2] at y
      cases y
theorem gl_small (hJ : gl_J e (i + 1) u v) (hn : ¬ gr_R (gl_t e 0) u v) (hi : i < 3) (hpq : gr_uv u v p q) (hc : gr_c (gr_R (gl_t e i) p) 12 ≤ gr_c (gr_R (gl_t e i) q) 12) : 2 ^ (i + 1) * gr_c (gr_R (gl_t e i) p) 12 ≤ 12 := by
  obtain ⟨h1, h2, h3, h4⟩ := hJ
  have hnpq : ¬ gr_R (gl_t e 0) p q := by
    rcases hpq with ⟨rfl, rfl⟩ | ⟨rfl, rfl⟩
    · exact hn
    · exact fun z => hn (gr_sym (gl_ts h1) z)
  have hd : gr_c (gr_R (gl_t e i) p) 12 + gr_c (gr_R (gl_t e i) q) 12 ≤ gr_c (gr_R (gl_a e (i + 1) u v i) p) 12 := by
    refine gr_cd ?_ ?_ ?_
    · intro x _ r
      exact gr_mono (fun a b ab => Or.inl ab) r
    · intro x _ r
      exact gr_trans (gr_one (Or.inr ⟨Nat.lt_succ_self i, hpq⟩)) (gr_mono (fun a b ab => Or.inl ab) r)
    · intro x _ r1 r2
      exact hnpq (gr_mono (gl_tl (Nat.zero_le i)) (gr_trans r1 (gr_sym (gl_ts h1) r2)))
  have h5 := h4 i p hi
  have h6 : 2 ^ i * (2 * gr_c (gr_R (gl_t e i) p) 12) ≤ 2 ^ i * gr_c (gr_R (gl_a e (i + 1) u v i) p) 12 := Nat.mul_le_mul_left _ (by omega)
  rw [Nat.pow_succ, Nat.mul_assoc]
  exact Nat.le_trans h6 h5
theorem gl_room (h : 2 ^ (i + 1) * gr_c S 12 ≤ 12) (hi : i < 3) {a b : Nat} (ha : a < 12) (hb : b < 12) (hab : a ≠ b) (sa : S a) (sb : S b) : i + 1 < 3 := by
  have h2 := gr_c2 ha hb hab sa sb
  have h3 : i = 0 ∨ i = 1 ∨ i = 2 := by omega
  rcases h3 with h3 | h3 | h3
  · omega
  · omega
  · rw [h3] at h
    have h' : 8 * gr_c S 12 ≤ 12 := h
    omega
theorem gl_keep (hJ : gl_J e (i + 1) u v) (hsm : 2 ^ (i + 1) * gr_c (gr_R (gl_t e i) p) 12 ≤ 12) (hz : gl_z e e' i (gr_R (gl_t e i) p)) (ho : gl_ok e') : gl_J e' (i + 1) u v := by
  obtain ⟨h1, h2, h3, h4⟩ := hJ
  have t1 := gl_zt1 hz
  have tj : ∀ j, j ≠ i + 1 → gl_t e' j = gl_t e j := fun j hj => gl_zt hz hj
  have hS : ∀ x, gr_R (gl_t e i) p x → gr_R (gl_t e' (i + 1)) p x := by
    intro x r
    refine (gr_cl (S := fun x => gr_R (gl_t e i) p x ∧ gr_R (gl_t e' (i + 1)) p x) r ⟨gr_refl p, gr_refl p⟩ ?_).2
    rintro a b ⟨s1, s2⟩ ab
    refine ⟨gr_step s1 ab, gr_step s2 ?_⟩
    rw [t1]
    obtain ⟨k, hk, qk⟩ := ab
    by_cases z : k = i
    · rw [z] at qk
      exact Or.inr ⟨s1, qk⟩
    · exact Or.inl ⟨k, by omega, qk⟩
  have mono : ∀ j a b, gl_t e j a b → gl_t e' j a b := by
    intro j a b h
    by_cases z : j = i + 1
    · subst z
      rw [t1]
      exact Or.inl h
    · rw [tj j z]
      exact h
  refine ⟨ho, ?_, ?_, ?_⟩
  · rw [tj 0 (by omega)]
    exact h2
  · intro j a b y
    rcases hz a b with ⟨z, _⟩ | ⟨_, _, z2⟩ | ⟨sa, sb, _, z2⟩
    · refine gr_mono ?_ (h3 j a b (z.symm.trans y))
      intro c d cd
      exact cd.imp (mono j c d) id
    · exact absurd (gl_inj z2 y).2 (by decide)
    · rw [(gl_inj z2 y).1, gl_a0 (Nat.le_refl _)]
      exact gr_trans (gr_sym (gl_ts ho) (hS a sa)) (hS b sb)
  · intro j a hj
    by_cases z : j = i + 1
    · subst z
      rw [gl_a0 (Nat.le_refl _)]
      by_cases sa : gr_R (gl_t e i) p a
      · refine Nat.le_trans (Nat.mul_le_mul_left _ (gr_cm ?_)) hsm
        intro x _ r
        refine gr_trans sa (gr_mono ?_ r)
        intro c d cd
        rw [t1] at cd
        rcases cd with cd | ⟨_, cd⟩
        · exact gl_tl (Nat.le_succ i) c d cd
        · exact ⟨i, Nat.le_refl i, cd⟩
      · have h5 := h4 (i + 1) a hj
        rw [gl_a0 (Nat.le_refl _)] at h5
        refine Nat.le_trans (Nat.mul_le_mul_left _ (gr_cm ?_)) h5
        intro x _ r
        refine (gr_cl (S := fun x => ¬ gr_R (gl_t e i) p x ∧ gr_R (gl_t e (i + 1)) a x) r ⟨sa, gr_refl a⟩ ?_).2
        rintro c d ⟨s1, s2⟩ cd
        rw [t1] at cd
        rcases cd with cd | ⟨y, _⟩
        · exact ⟨fun y => s1 (gr_step y (gl_ts h1 c d (gl_tl (Nat.le_succ i) c d cd))), gr_step s2 cd⟩
        · exact absurd y s1
    · have e5 : gl_a e' (i + 1) u v j = gl_a e (i + 1) u v j := by
        funext c d
        unfold gl_a
        rw [tj j z]
      rw [e5]
      exact h4 j a hj
theorem gl_fail (hJ : gl_J e (i + 1) u v) (hpq : gr_uv u v p q) (hno : ∀ a b, gr_R (gl_t e i) p a → e a b ≠ some (i, false)) : gl_J e i u v := by
  obtain ⟨h1, h2, h3, h4⟩ := hJ
  have sub : ∀ j a b, gl_a e i u v j a b → gl_a e (i + 1) u v j a b := fun j a b h => h.imp id (fun z => ⟨Nat.lt_succ_of_lt z.1, z.2⟩)
  refine ⟨h1, h2, ?_, fun j a hj => Nat.le_trans (Nat.mul_le_mul_left _ (gr_cm fun x _ r => gr_mono (sub j) r)) (h4 j a hj)⟩
  intro j a b z
  have r := h3 j a b z
  rcases Nat.lt_trichotomy j i with hj | hj | hj
  · rw [gl_a1 hj]
    rw [gl_a1 (Nat.lt_succ_of_lt hj)] at r
    exact r
  · rw [hj] at z r
    rw [hj, gl_a0 (Nat.le_refl _)]
    rw [gl_a1 (Nat.lt_succ_self _)] at r
    have z' := (h1.1 b a).trans z
    have s := gl_ts (i := i) h1
    rcases gr_split r with r | ⟨r1, r2⟩ | ⟨r1, r2⟩
    · exact r
    · exfalso
      rcases hpq with ⟨hp, _⟩ | ⟨hp, _⟩
      · rw [hp] at hno
        exact hno a b (gr_sym s r1) z
      · rw [hp] at hno
        exact hno b a r2 z'
    · exfalso
      rcases hpq with ⟨hp, _⟩ | ⟨hp, _⟩
      · rw [hp] at hno
        exact hno b a r2 z'
      · rw [hp] at hno
        exact hno a b (gr_sym s r1) z
  · rw [gl_a0 (by omega)]
    rw [gl_a0 (by omega)] at r
    exact r
theorem gl_succ {x y : Nat} (hJ : gl_J e (i + 1) u v) (hn : ¬ gr_R (gl_t e 0) u v) (hi : i < 3) (hxy : e x y = some (i, false)) (sx : gr_R (gl_t e i) p x) (sy : ¬ gr_R (gl_t e i) p y) : gl_I (gl_s e x y (some (i, true))) ∧ gr_R (gl_t (gl_s e x y (some (i, true))) 0) u v := by
  obtain ⟨h1, h2, h3, h4⟩ := hJ
  have hb := h1.2 x y i false hxy
  have r := h3 i x y hxy
  rw [gl_a1 (Nat.lt_succ_self i)] at r
  have ends : (gr_R (gl_t e i) x u ∧ gr_R (gl_t e i) v y) ∨ (gr_R (gl_t e i) x v ∧ gr_R (gl_t e i) u y) := by
    rcases gr_split r with r | r
    · exact absurd (gr_trans sx r) sy
    · exact r
  have t1 : ∀ j, j ≤ i → gl_t (gl_s e x y (some (i, true))) j = gr_pl (gl_t e j) x y := fun j hj => gl_tp1 hj
  have t0 : ∀ j, i < j → gl_t (gl_s e x y (some (i, true))) j = gl_t e j := fun j hj => gl_tp0 (fun k _ z => absurd (gl_inj hxy z).2 (by decide)) h1.1 (Or.inr hj)
  have ruv : ∀ j, j ≤ i → gr_R (gr_pl (gl_t e j) x y) u v := by
    intro j hj
    have up : ∀ a b, gl_t e i a b → gr_pl (gl_t e j) x y a b := fun a b ab => Or.inl (gl_tl hj a b ab)
    have g1 : gr_R (gr_pl (gl_t e j) x y) x y := gr_one (Or.inr (gr_uv1 x y))
    have sp := gr_pls (gl_ts (i := j) h1) x y
    rcases ends with ⟨r1, r2⟩ | ⟨r1, r2⟩
    · exact gr_trans (gr_sym sp (gr_mono up r1)) (gr_trans g1 (gr_sym sp (gr_mono up r2)))
    · exact gr_trans (gr_mono up r2) (gr_trans (gr_sym sp g1) (gr_mono up r1))
  have rxy : ∀ j, j ≤ i → gr_R (gr_pl (gl_t e j) u v) x y := by
    intro j hj
    exact gr_mono (fun a b ab => ab.imp (gl_tl hj a b) id) r
  have nxy : ¬ gr_R (gl_t e 0) x y := by
    intro z
    apply hn
    have l := gl_tl (e := e) (Nat.zero_le i)
    have s0 := gl_ts (i := 0) h1
    rcases ends with ⟨r1, r2⟩ | ⟨r1, r2⟩
    · exact gr_trans (gr_sym s0 (gr_mono l r1)) (gr_trans z (gr_sym s0 (gr_mono l r2)))
    · exact gr_trans (gr_mono l r2) (gr_trans (gr_sym s0 z) (gr_mono l r1))
  have fwd : ∀ j, j ≤ i → ∀ a b, gr_R (gr_pl (gl_t e j) u v) a b → gr_R (gr_pl (gl_t e j) x y) a b := by
    intro j hj a b
    refine gr_bind ?_
    intro c d cd
    rcases cd with cd | ⟨hc, hd⟩ | ⟨hc, hd⟩
    · exact gr_one (Or.inl cd)
    · rw [hc, hd]
      exact ruv j hj
    · rw [hc, hd]
      exact gr_sym (gr_pls (gl_ts h1) x y) (ruv j hj)
  have back : ∀ j, j ≤ i → ∀ a b, gr_R (gr_pl (gl_t e j) x y) a b → gr_R (gr_pl (gl_t e j) u v) a b := by
    intro j hj a b
    refine gr_bind ?_
    intro c d cd
    rcases cd with cd | ⟨hc, hd⟩ | ⟨hc, hd⟩
    · exact gr_one (Or.inl cd)
    · rw [hc, hd]
      exact rxy j hj
    · rw [hc, hd]
      exact gr_sym (gr_pls (gl_ts h1) u v) (rxy j hj)
  refine ⟨⟨gl_oki h1 hb.1 hb.2.1 hb.2.2.1 hi, ?_, ?_, ?_⟩, ?_⟩
  · rw [t1 0 (Nat.zero_le i)]
    exact gr_Fp (gl_ts h1) h2 nxy
  · intro j a b z
    have z' : e a b = some (j, false) := by
      by_cases w : gr_uv x y a b
      · rw [gl_s1 w] at z
        cases z
      · rw [gl_s0 w] at z
        exact z
    have rr := h3 j a b z'
    rcases Nat.lt_or_ge i j with hj | hj
    · rw [t0 j hj]
      rw [gl_a0 (by omega)] at rr
      exact rr
    · rw [t1 j hj]
      rw [gl_a1 (by omega)] at rr
      exact fwd j hj a b rr
  · intro j a hj3
    have h5 := h4 j a hj3
    rcases Nat.lt_or_ge i j with hj | hj
    · rw [t0 j hj]
      rw [gl_a0 (by omega)] at h5
      exact h5
    · rw [t1 j hj]
      rw [gl_a1 (by omega)] at h5
      exact Nat.le_trans (Nat.mul_le_mul_left _ (gr_cm fun b _ rb => back j hj a b rb)) h5
  · rw [t1 0 (Nat.zero_le i)]
    exact ruv 0 (Nat.zero_le i)
/-- a bridge: no other edge leads out of the piece -/
theorem gl_led {f : Nat} (h : gl_I e) (hq : e u v = some (f, true)) : gr_R (gl_d (gl_s e u v none)) u v ↔ ∃ x i y, gr_R (gl_t (gl_s e u v none) 0) u x ∧ i < 4 ∧ gl_s e u v none x y = some (i, false) ∧ ¬ gr_R (gl_t (gl_s e u v none) 0) u y := by
  obtain ⟨hJ, hn⟩ := gl_start h hq
  generalize gl_s e u v none = e1 at hJ hn ⊢
  obtain ⟨h1, h2, h3, h4⟩ := hJ
  refine ⟨fun r => ?_, ?_⟩
  · refine Classical.byContradiction fun hno => hn ?_
    refine gr_cl (S := fun y => gr_R (gl_t e1 0) u y) r (gr_refl u) ?_
    intro a b sa ab
    cases qc : e1 a b with
    | none => exact absurd qc ab
    | some c =>
      obtain ⟨j, t⟩ := c
      cases t with
      | true => exact gr_step sa ⟨j, Nat.zero_le j, qc⟩
      | false =>
        have hb := h1.2 a b j false qc
        exact Classical.byContradiction fun hb' => hno ⟨a, j, b, sa, by omega, qc, hb'⟩
  · rintro ⟨x, i, y, sx, _, qc, sy⟩
    have r := h3 i x y qc
    have r' : gr_R (gr_pl (gl_t e1 0) u v) x y := gr_mono (fun a b ab => ab.imp (gl_tl (Nat.zero_le i) a b) (fun z => z.2)) r
    have xy : gl_d e1 x y := fun z => by rw [qc] at z; cases z
    rcases gr_split r' with r | ⟨r1, r2⟩ | ⟨r1, r2⟩
    · exact absurd (gr_trans sx r) sy
    · exact gr_trans (gr_step (gr_mono gl_td sx) xy) (gr_mono gl_td (gr_sym (gl_ts h1) r2))
    · exact absurd r2 sy
end
end
section
/-! ===== a word as a set of points ===== -/
section
variable {m m' : Int32} {P P' : Nat → Prop}
def bm_k (m : Int32) (P : Nat → Prop) : Prop := ∀ i, i < 32 → (bt m i = true ↔ P i)
theorem bm_1 : ∀ i, i < 32 → bt 1 i = decide (i = 0) := by decide +kernel
theorem bm_v (m : Int32) {x : Nat} (hx : x < 32) : ((m >>> (nI x &&& 31)) &&& 1) = (if bt m x = true then 1 else 0) := by
  apply b_ext
  intro i hi
  rw [b_and, b_sshr x hx m hi, bm_1 i hi]
  by_cases z : i = 0
  · subst z
    rw [if_pos (by omega), Nat.add_zero]
    cases bt m x
    · rw [if_neg (by decide), b_0]
      rfl
    · rw [if_pos rfl, bm_1 0 (by decide)]
      rfl
  · rw [decide_eq_false z, Bool.and_false]
    cases bt m x
    · rw [if_neg (by decide), b_0]
    · rw [if_pos rfl, bm_1 i hi, decide_eq_false z]
theorem bm_b (h : bm_k m P) {x : Nat} (hx : x < 32) : ((m >>> (nI x &&& 31)) &&& 1) = nI (gr_b (P x)) := by
  rw [bm_v m hx]
  by_cases p : P x
  · rw [if_pos ((h x hx).mpr p), gr_b1 p]
    rfl
  · rw [if_neg (fun z => p ((h x hx).mp z)), gr_b0 p]
    rfl
theorem bm_t0 (h : bm_k m P) {x : Nat} (hx : x < 32) : ((m >>> (nI x &&& 31)) &&& 1) = 0 ↔ ¬ P x := by
  rw [bm_b h hx]
  by_cases p : P x
  · rw [gr_b1 p]
    exact ⟨fun z => absurd z (by decide), fun z => absurd p z⟩
  · rw [gr_b0 p]
    exact ⟨fun _ => p, fun _ => rfl⟩
theorem bm_t1 (h : bm_k m P) {x : Nat} (hx : x < 32) : ((m >>> (nI x &&& 31)) &&& 1) = 1 ↔ P x := by
  rw [bm_b h hx]
  by_cases p : P x
  · rw [gr_b1 p]
    exact ⟨fun _ => p, fun _ => rfl⟩
  · rw [gr_b0 p]
    exact ⟨fun z => absurd z (by decide), fun z => absurd z p⟩
theorem bm_or (h : bm_k m P) (h' : bm_k m' P') : bm_k (m ||| m') (fun i => P i ∨ P' i) := by
  intro i hi
  show bt (m ||| m') i = true ↔ (P i ∨ P' i)
  rw [b_or, Bool.or_eq_true, h i hi, h' i hi]
theorem bm_an (h : bm_k m P) (h' : bm_k m' P') : bm_k (m &&& (m' ^^^ (-1))) (fun i => P i ∧ ¬ P' i) := by
  intro i hi
  show bt (m &&& (m' ^^^ (-1))) i = true ↔ (P i ∧ ¬ P' i)
  rw [b_and, b_xor, b_m1 i hi, Bool.and_eq_true, h i hi, ← h' i hi]
  cases bt m' i <;> simp
theorem bm_and (h : bm_k m P) (h' : bm_k m' P') : bm_k (m &&& m') (fun i => P i ∧ P' i) := by
  intro i hi
  show bt (m &&& m') i = true ↔ (P i ∧ P' i)
  rw [b_and, Bool.and_eq_true, h i hi, h' i hi]
theorem bm_one {v : Nat} (hv : v < 32) : bm_k ((1 : Int32) <<< (nI v &&& 31)) (fun i => i = v) := by
  intro i hi
  show bt ((1 : Int32) <<< (nI v &&& 31)) i = true ↔ i = v
  rw [b_shl v hv 1 hi, bm_1 (i - v) (by omega), Bool.and_eq_true, decide_eq_true_iff, decide_eq_true_iff]
  omega
theorem bm_lo : ∀ u, u < 12 → ∀ i, i < 32 → bt (((1 : Int32) <<< (nI u &&& 31)) - 1) i = decide (i < u) := by decide +kernel
theorem bm_low {u : Nat} (hu : u < 12) : bm_k (((1 : Int32) <<< (nI u &&& 31)) - 1) (fun i => i < u) := by
  intro i hi
  show bt (((1 : Int32) <<< (nI u &&& 31)) - 1) i = true ↔ i < u
  rw [bm_lo u hu i hi, decide_eq_true_iff]
theorem bm_eq (h : bm_k m P) (h' : bm_k m' P') (hp : ∀ i, i < 32 → (P i ↔ P' i)) : m = m' := by
  apply b_ext
  intro i hi
  rw [Bool.eq_iff_iff, h i hi, h' i hi]
  exact hp i hi
theorem bm_0 : bm_k 0 (fun _ => False) := by
  intro i hi
  rw [b_0]
  exact ⟨fun z => (by cases z), fun z => z.elim⟩
theorem bm_z (h : bm_k m P) : m = 0 ↔ ∀ i, i < 32 → ¬ P i := by
  refine ⟨fun z i hi p => ?_, fun z => bm_eq h bm_0 (fun i hi => ⟨fun p => z i hi p, fun p => p.elim⟩)⟩
  have := (h i hi).mpr p
  rw [z, b_0] at this
  cases this
theorem bm_cg (h : bm_k m P) (hp : ∀ i, i < 32 → (P i ↔ P' i)) : bm_k m P' := fun i hi => (h i hi).trans (hp i hi)
theorem bm_12 : ∀ i, i < 32 → bt 4095 i = decide (i < 12) := by decide +kernel
theorem bm_n (h : bm_k m P) (hp : ∀ i, P i → i < 12) : ∃ k, k < 4096 ∧ m = nI k := by
  have e : m = m &&& 4095 := by
    apply b_ext
    intro i hi
    rw [b_and, bm_12 i hi]
    cases hb : bt m i
    · rfl
    · rw [decide_eq_true (hp i ((h i hi).mp hb))]
      rfl
  rw [pk_and m (m := 4095) 12 (by decide)] at e
  exact ⟨_, Nat.mod_lt _ (by decide), e⟩
/-- a short holds it -/
theorem bm_s (h : bm_k m P) (hp : ∀ i, P i → i < 12) : vp_nar .short (m.toInt16.toInt32) = m := by
  rw [pk_vs]
  obtain ⟨k, hk, e⟩ := bm_n h hp
  have ht : m.toInt = (k : Int) := by
    rw [e]
    exact nI_toInt (by omega)
  exact lg_i2s_small (by omega) (by omega)
theorem bm_nb {k : Nat} (hk : k < 128) : vp_nar .byte ((nI k).toInt8.toInt32) = nI k := by
  rw [pk_vb]
  have ht := nI_toInt (n := k) (by omega)
  exact lg_i2b_small (by omega) (by omega)
theorem bm_nm : vp_nar .byte (-1) = -1 := by
  rw [vp_nar_byte]
  decide
theorem bm_t (b : Bool) : vp_nar .boolean (if b = true then 1 else 0) = (if b = true then 1 else 0) := by cases b <;> rfl
/-! ===== places in the tables ===== -/
theorem bm_ix (x y : Nat) : (12 : Int32) * nI x + nI y = nI (12 * x + y) := by
  show nI 12 * nI x + nI y = _
  rw [pk_mul, nI_add]
theorem bm_ic {x y : Nat} (hx : x < 12) (hy : y < 12) : ((12 : Int32) * nI x + nI y).toNatClampNeg = 12 * x + y := by
  rw [bm_ix]
  exact nI_clamp (by omega)
theorem bm_i1 {x y : Nat} (hx : x < 12) (hy : y < 12) : vp_in ((12 : Int32) * nI x + nI y) 144 := by
  rw [bm_ix]
  exact vp_in_nI (by omega) (by omega)
theorem bm_i4 {x y : Nat} (hx : x < 4) (hy : y < 12) : vp_in ((12 : Int32) * nI x + nI y) 48 := by
  rw [bm_ix]
  exact vp_in_nI (by omega) (by omega)
theorem bm_cl {x : Nat} (hx : x < 12) : (nI x).toNatClampNeg = x := nI_clamp (by omega)
theorem bm_i12 {x : Nat} (hx : x < 12) : vp_in (nI x) 12 := vp_in_nI hx (by omega)
theorem bm_ge {x : Nat} (hx : x < 12) : ¬ (12 : Int32) ≤ nI x := nI_ge (b := 12) hx (by decide)
theorem bm_le : (12 : Int32) ≤ nI 12 := by decide
theorem bm_po {x : Nat} (hx : x < 12) : ¬ nI x < 0 := nI_pos (by omega)
theorem bm_ne {x y : Nat} (hx : x < 12) (hy : y < 12) (h : x ≠ y) : ¬ nI x = nI y := fun z => h ((nI_eq (by omega) (by omega)).mp z)
end
end
section
/-! ===== the reference's walks, over a plain graph A ===== -/
def yr_P (nx : Nat → Int32) (A : Nat → Nat → Prop) : Prop := ∀ x, x < 12 → bm_k (nx x) (A x)
theorem yw_bad {p : Int32} (h : nI 12 ≤ p) : ¬ p < 0 ∧ 11 < p ∧ 12 ≤ p := by
  have e12 : (nI 12).toInt = 12 := by decide
  have e11 : (11 : Int32).toInt = 11 := by decide
  have e0 : (0 : Int32).toInt = 0 := by decide
  rw [Int32.le_iff_toInt_le, e12] at h
  refine ⟨?_, ?_, ?_⟩
  · rw [Int32.lt_iff_toInt_lt, e0]
    omega
  · rw [Int32.lt_iff_toInt_lt, e11]
    exact h
  · show nI 12 ≤ p
    rw [Int32.le_iff_toInt_le, e12]
    exact h
section
variable {nx kp : Nat → Int32} {A : Nat → Nat → Prop} {m : Int32} {P : Nat → Prop}
theorem yr_at (h : yr_P nx A) {a : Nat} (ha : a < 12) : bm_k (nx (nI a).toNatClampNeg) (A a) := by
  rw [bm_cl ha]
  exact h a ha
theorem yw_pt1 {post : Int32 → Prop} {a : Nat} (ha : a < 12) (h : post 1) : wpY_isPoint post (nx, kp) (nI a) :=
  br_f (bm_po ha) (br_f (nI_nlt (a := 11) (b := a) (by omega) (by decide)) h)
theorem yw_pt0 {post : Int32 → Prop} {p : Int32} (hp : p < 0 ∨ nI 12 ≤ p) (h : post 0) : wpY_isPoint post (nx, kp) p := by
  rcases hp with hp | hp
  · exact br_t hp h
  · exact br_f (yw_bad hp).1 (br_t (yw_bad hp).2.1 h)
theorem yw_in {post : Int32 → Prop} (hm : bm_k m P) {x : Nat} (hx : x < 32) (h1 : P x → post 1) (h0 : ¬ P x → post 0) : wpY_in post (nx, kp) m (nI x) := by
  by_cases p : P x
  · exact br_t ((bm_t1 hm hx).mpr p) (h1 p)
  · exact br_f (fun z => p ((bm_t1 hm hx).mp z)) (h0 p)
theorem yw_size {post : Int32 → Prop} (hm : bm_k m P) (h : post (nI (gr_c P 12))) : wpY_sizeOf post (nx, kp) m := by
  refine loop_0 (fun n i s => wY_sizeOf_4 post m nx kp n s (nI i)) (fun i s => s = nI (gr_c P i)) 12 0 rfl ?_ ?_
  · rintro n s rfl
    exact br_t bm_le h
  · rintro n i s hi rfl hk
    refine br_f (bm_ge hi) (yw_in hm (by omega) (fun p => ?_) (fun p => ?_))
    · refine br_f (by decide) (nm_r (nI_1 _) (nm_r (nI_1 i) (hk _ ?_)))
      rw [gr_cs, gr_b1 p]
    · refine br_t rfl (nm_r (nI_1 i) (hk _ ?_))
      rw [gr_cs, gr_b0 p]
      rfl
theorem yw_walk {post : Int32 → Prop} {p : Nat} (hA : gr_ok A) (hY : yr_P nx A) (hp : p < 12) (h : ∀ r, bm_k r (gr_R A p) → post r) : wpY_walk post (nx, kp) (nI p) := by
  unfold wpY_walk
  dsimp only
  refine nm_e ?_
  refine loop_0 (fun n i s => wY_walk_6 post nx kp n s (nI i)) (fun i s => ∃ T : Nat → Prop, bm_k s T ∧ T p ∧ (∀ x, T x → gr_R A p x) ∧ ((∀ a b, T a → A a b → T b) ∨ i + 1 ≤ gr_c T 12)) 12 _ ?_ ?_ ?_
  · refine ⟨fun i => i = p, bm_one (by omega), rfl, fun x hx => ?_, Or.inr (gr_cp hp rfl)⟩
    rw [hx]
    exact gr_refl p
  · rintro n s ⟨T, hT, tp, ts, hc⟩
    refine br_t bm_le (h s (bm_cg hT ?_))
    have cl : ∀ a b, T a → A a b → T b := by
      rcases hc with hc | hc
      · exact hc
      · have := gr_cle T 12
        omega
    exact fun x _ => ⟨ts x, fun r => gr_cl r tp cl⟩
  · rintro n i s hi ⟨T, hT, tp, ts, hc⟩ hk
    refine br_f (bm_ge hi) ?_
    refine loop_0 (fun n' x t => wY_walk_15 post (wY_walk_6 post nx kp n) (nI i) nx kp n' t (nI x)) (fun x t => ∃ U : Nat → Prop, bm_k t U ∧ (∀ y, T y → U y) ∧ (∀ y, U y → gr_R A p y) ∧ (∀ C : Nat → Prop, (∀ y, T y → C y) → (∀ a b, C a → A a b → C b) → ∀ y, U y → C y) ∧ (∀ a b, a < x → T a → A a b → U b)) 12 s ?_ ?_ ?_
    · exact ⟨T, hT, fun _ h => h, ts, fun C h _ y ty => h y ty, fun a b ha => absurd ha (Nat.not_lt_zero a)⟩
    · rintro n' t ⟨U, hU, tu, us, uc, up⟩
      refine br_t bm_le (nm_r (nI_1 i) (hk t ⟨U, hU, tu p tp, us, ?_⟩))
      by_cases z : ∃ a b, T a ∧ A a b ∧ ¬ T b
      · obtain ⟨a, b, ta, ab, nb⟩ := z
        have hb := hA.2 a b ab
        rcases hc with hc | hc
        · exact absurd (hc a b ta ab) nb
        · right
          have := gr_clt (P := T) (Q := U) hb.2.1 (up a b hb.1 ta ab) nb (fun x _ => tu x)
          omega
      · have hc' : ∀ a b, T a → A a b → T b := fun a b ta ab => Classical.byContradiction fun nb => z ⟨a, b, ta, ab, nb⟩
        exact Or.inl fun a b ua ab => tu b (hc' a b (uc T (fun _ h => h) hc' a ua) ab)
    · rintro n' x t hx ⟨U, hU, tu, us, uc, up⟩ hk'
      refine br_f (bm_ge hx) (yw_in hU (by omega) (fun q => ?_) (fun q => ?_))
      · refine br_f (by decide) (And.intro (bm_i12 hx) (nm_e (nm_r (nI_1 x) (hk' _ ?_))))
        refine ⟨fun y => U y ∨ A x y, bm_or hU (yr_at hY hx), fun y ty => Or.inl (tu y ty), ?_, ?_, ?_⟩
        · rintro y (hy | hy)
          · exact us y hy
          · exact gr_step (us x q) hy
        · rintro C c1 c2 y (hy | hy)
          · exact uc C c1 c2 y hy
          · exact c2 x y (uc C c1 c2 x q) hy
        · intro a b ha ta ab
          by_cases z : a = x
          · rw [z] at ab
            exact Or.inr ab
          · exact Or.inl (up a b (by omega) ta ab)
      · refine br_t rfl (nm_r (nI_1 x) (hk' t ⟨U, hU, tu, us, uc, ?_⟩))
        intro a b ha ta ab
        by_cases z : a = x
        · rw [z] at ta
          exact absurd (tu x ta) q
        · exact up a b (by omega) ta ab
theorem yw_conn {post : Int32 → Prop} {p q : Nat} (hA : gr_ok A) (hY : yr_P nx A) (hp : p < 12) (hq : q < 12) (h1 : gr_R A p q → post 1) (h0 : ¬ gr_R A p q → post 0) : wpY_connected post (nx, kp) (nI p) (nI q) := by
  unfold wpY_connected
  dsimp only
  refine yw_pt1 hp ?_
  refine br_f (by decide) ?_
  refine yw_pt1 hq ?_
  refine br_f (by decide) ?_
  refine yw_walk hA hY hp ?_
  intro r hr
  refine yw_in hr (by omega) (fun z => ?_) (fun z => ?_)
  · exact And.intro narrow_b1 (h1 z)
  · exact And.intro narrow_b0 (h0 z)
theorem yw_conn0 {post : Int32 → Prop} {p q : Int32} (h : (p < 0 ∨ nI 12 ≤ p) ∨ (∃ a, a < 12 ∧ p = nI a) ∧ (q < 0 ∨ nI 12 ≤ q)) (h0 : post 0) : wpY_connected post (nx, kp) p q := by
  unfold wpY_connected
  dsimp only
  rcases h with h | ⟨⟨a, ha, rfl⟩, h⟩
  · refine yw_pt0 h ?_
    exact br_t rfl h0
  · refine yw_pt1 ha ?_
    refine br_f (by decide) ?_
    refine yw_pt0 h ?_
    exact br_t rfl h0
theorem yw_put {post : SY → Prop} {u v : Nat} (hY : yr_P nx A) (hu : u < 12) (hv : v < 12) (huv : u ≠ v) (h : ∀ nx', yr_P nx' (gr_pl A u v) → post (nx', kp)) : wpY_put post (nx, kp) (nI u) (nI v) := by
  unfold wpY_put
  dsimp only
  rw [bm_cl hu, bm_cl hv]
  refine And.intro (bm_i12 hu) (And.intro (bm_i12 hu) (nm_e (And.intro (bm_i12 hv) (And.intro (bm_i12 hv) (nm_e (h _ ?_))))))
  intro x hx
  by_cases z : x = v
  · rw [z, pk_us, pk_un (fun y => huv y.symm)]
    refine bm_cg (bm_or (hY v hv) (bm_one (v := u) (by omega))) (fun i _ => ?_)
    exact ⟨fun w => w.imp id (fun w => Or.inr ⟨rfl, w⟩), fun w => w.imp id (fun w => by rcases w with w | w <;> omega)⟩
  · rw [pk_un z]
    by_cases y : x = u
    · rw [y, pk_us]
      refine bm_cg (bm_or (hY u hu) (bm_one (v := v) (by omega))) (fun i _ => ?_)
      exact ⟨fun w => w.imp id (fun w => Or.inl ⟨rfl, w⟩), fun w => w.imp id (fun w => by rcases w with w | w <;> omega)⟩
    · rw [pk_un y]
      refine bm_cg (hY x hx) (fun i _ => ⟨Or.inl, fun w => w.resolve_right (fun w => by rcases w with w | w <;> omega)⟩)
theorem yw_take {post : SY → Prop} {u v : Nat} (hY : yr_P nx A) (hu : u < 12) (hv : v < 12) (huv : u ≠ v) (h : ∀ nx', yr_P nx' (gr_mi A u v) → post (nx', kp)) : wpY_take post (nx, kp) (nI u) (nI v) := by
  unfold wpY_take
  dsimp only
  rw [bm_cl hu, bm_cl hv]
  refine And.intro (bm_i12 hu) (And.intro (bm_i12 hu) (nm_e (And.intro (bm_i12 hv) (And.intro (bm_i12 hv) (nm_e (h _ ?_))))))
  intro x hx
  by_cases z : x = v
  · rw [z, pk_us, pk_un (fun y => huv y.symm)]
    refine bm_cg (bm_an (hY v hv) (bm_one (v := u) (by omega))) (fun i _ => ?_)
    exact ⟨fun w => ⟨w.1, fun y => w.2 (by rcases y with y | y <;> omega)⟩, fun w => ⟨w.1, fun y => w.2 (Or.inr ⟨rfl, y⟩)⟩⟩
  · rw [pk_un z]
    by_cases y : x = u
    · rw [y, pk_us]
      refine bm_cg (bm_an (hY u hu) (bm_one (v := v) (by omega))) (fun i _ => ?_)
      exact ⟨fun w => ⟨w.1, fun y => w.2 (by rcases y with y | y <;> omega)⟩, fun w => ⟨w.1, fun y => w.2 (Or.inl ⟨rfl, y⟩)⟩⟩
    · rw [pk_un y]
      exact bm_cg (hY x hx) (fun i _ => ⟨fun w => ⟨w, fun y => by rcases y with y | y <;> omega⟩, fun w => w.1⟩)
theorem gr_sb {f : Nat → Nat} {k n : Nat} (h : ∀ x, f x ≤ k) : gr_s f n ≤ n * k := by
  induction n with
  | zero => exact Nat.zero_le _
  | succ n ih =>
    rw [gr_ss, Nat.succ_mul]
    have := h n
    omega
theorem yw_edges {post : Int32 → Prop} (hY : yr_P nx A) (h : post (nI (gr_e A / 2))) : wpY_edges post (nx, kp) := by
  refine loop_0 (fun n i s => wY_edges_4 post nx kp n s (nI i)) (fun i s => s = nI (gr_s (fun x => gr_c (A x) 12) i)) 12 0 rfl ?_ ?_
  · rintro n s rfl
    refine br_t bm_le (And.intro (by decide) ?_)
    have hb : gr_s (fun x => gr_c (A x) 12) 12 ≤ 12 * 12 := gr_sb (fun x => gr_cle (A x) 12)
    have e := pk_div (a := gr_s (fun x => gr_c (A x) 12) 12) (d := 2) (by omega) (by decide) (by decide)
    show post (nI (gr_s (fun x => gr_c (A x) 12) 12) / nI 2)
    rw [e]
    exact h
  · rintro n i s hi rfl hk
    refine br_f (bm_ge hi) (And.intro (bm_i12 hi) (yw_size (yr_at hY hi) ?_))
    refine nm_r (nI_add _ _) (nm_r (nI_1 i) (hk _ ?_))
    rw [gr_ss]
theorem yw_parts {post : Int32 → Prop} (hA : gr_ok A) (hY : yr_P nx A) (h : post (nI (gr_k A))) : wpY_parts post (nx, kp) := by
  refine loop_0 (fun n i s => wY_parts_4 post nx kp n s (nI i)) (fun i s => s = nI (gr_c (fun x => ∀ y, y < x → ¬ gr_R A x y) i)) 12 0 rfl ?_ ?_
  · rintro n s rfl
    exact br_t bm_le h
  · rintro n i s hi rfl hk
    refine br_f (bm_ge hi) (yw_walk hA hY hi ?_)
    intro r hr
    have hz := bm_z (bm_and hr (bm_low hi))
    by_cases z : ∀ y, y < i → ¬ gr_R A i y
    · refine br_t (hz.mpr (fun y _ w => z y w.2 w.1)) (nm_r (nI_1 _) (nm_r (nI_1 i) (hk _ ?_)))
      rw [gr_cs, gr_b1 z]
    · refine br_f (fun w => z (fun y hy r => hz.mp w y (by omega) ⟨r, hy⟩)) (nm_r (nI_1 i) (hk _ ?_))
      rw [gr_cs, gr_b0 z]
      rfl
end
end
section
/-! ===== the reference's calls ===== -/
section
variable {nx kp : Nat → Int32} {A : Nat → Nat → Prop}
theorem yw_isEdge {post : Int32 → Prop} {a b : Nat} (hY : yr_P nx A) (ha : a < 12) (hb : b < 12) (h1 : A a b → post 1) (h0 : ¬ A a b → post 0) : wpY_isEdge post (nx, kp) (nI a) (nI b) := by
  unfold wpY_isEdge
  dsimp only
  refine yw_pt1 ha ?_
  refine br_f (by decide) ?_
  refine yw_pt1 hb ?_
  refine br_f (by decide) ?_
  refine And.intro (bm_i12 ha) (yw_in (yr_at hY ha) (by omega) (fun z => ?_) (fun z => ?_))
  · exact br_f (by decide) (h1 z)
  · exact br_t rfl (h0 z)
theorem yw_isEdge0 {post : Int32 → Prop} {p q : Int32} (h : (p < 0 ∨ nI 12 ≤ p) ∨ (∃ a, a < 12 ∧ p = nI a) ∧ (q < 0 ∨ nI 12 ≤ q)) (h0 : post 0) : wpY_isEdge post (nx, kp) p q := by
  unfold wpY_isEdge
  dsimp only
  rcases h with h | ⟨⟨a, ha, rfl⟩, h⟩
  · refine yw_pt0 h ?_
    exact br_t rfl h0
  · refine yw_pt1 ha ?_
    refine br_f (by decide) ?_
    refine yw_pt0 h ?_
    exact br_t rfl h0
theorem yw_bridge {post : Int32 → SY → Prop} {a b : Nat} (hA : gr_ok A) (hY : yr_P nx A) (hab : A a b) (h0 : ∀ nx', yr_P nx' A → gr_R (gr_mi A a b) a b → post 0 (nx', kp)) (h1 : ∀ nx', yr_P nx' A → ¬ gr_R (gr_mi A a b) a b → post 1 (nx', kp)) : wpY_isBridge post (nx, kp) (nI a) (nI b) := by
  obtain ⟨ha, hb, hne⟩ := hA.2 a b hab
  have back : ∀ nx', yr_P nx' (gr_pl (gr_mi A a b) a b) → yr_P nx' A := fun nx' h => by rw [gr_pm hab (hA.1 a b hab)] at h; exact h
  unfold wpY_isBridge
  dsimp only
  refine yw_isEdge hY ha hb (fun _ => ?_) (fun z => absurd hab z)
  refine br_f (by decide) ?_
  refine yw_take hY ha hb hne ?_
  intro nx1 hY1
  refine yw_conn (gr_okm hA) hY1 ha hb (fun z => ?_) (fun z => ?_)
  · refine br_f (by decide) ?_
    unfold wY_isBridge_31
    refine yw_put hY1 ha hb hne ?_
    intro nx2 hY2
    exact And.intro narrow_b0 (h0 nx2 (back nx2 hY2) z)
  · refine br_t rfl ?_
    unfold wY_isBridge_31
    refine yw_put hY1 ha hb hne ?_
    intro nx2 hY2
    exact And.intro narrow_b1 (h1 nx2 (back nx2 hY2) z)
theorem yw_bridge0 {post : Int32 → SY → Prop} {a b : Nat} (hY : yr_P nx A) (ha : a < 12) (hb : b < 12) (hab : ¬ A a b) (h0 : post 0 (nx, kp)) : wpY_isBridge post (nx, kp) (nI a) (nI b) := by
  unfold wpY_isBridge
  dsimp only
  refine yw_isEdge hY ha hb (fun z => absurd z hab) (fun _ => ?_)
  exact br_t rfl h0
theorem yw_bridge00 {post : Int32 → SY → Prop} {p q : Int32} (h : (p < 0 ∨ nI 12 ≤ p) ∨ (∃ a, a < 12 ∧ p = nI a) ∧ (q < 0 ∨ nI 12 ≤ q)) (h0 : post 0 (nx, kp)) : wpY_isBridge post (nx, kp) p q := by
  unfold wpY_isBridge
  dsimp only
  refine yw_isEdge0 h ?_
  exact br_t rfl h0
/-! ===== spare ===== -/
theorem yw_sp3 {post : Int32 → SY → Prop} {x1 : Int32} (h : ∀ nx', (∀ x, x < 12 → nx' x = kp x) → post x1 (nx', kp)) : ∃ n, wY_spare_90 post x1 n 0 nx kp := by
  refine loop_0 (fun n i s => wY_spare_90 post x1 n (nI i) s kp) (fun i s => ∀ x, x < i → s x = kp x) 12 nx (fun x hx => absurd hx (Nat.not_lt_zero x)) ?_ ?_
  · intro n s hs
    exact br_t bm_le (h s hs)
  · intro n i s hi hs hk
    refine br_f (bm_ge hi) ?_
    rw [bm_cl hi]
    refine And.intro (bm_i12 hi) (And.intro (bm_i12 hi) (nm_e (nm_r (nI_1 i) (hk _ ?_))))
    intro x hx
    by_cases z : x = i
    · rw [z, pk_us]
    · rw [pk_un z]
      exact hs x (by omega)
def yw_I (A : Nat → Nat → Prop) (i : Nat) (s : Int32 × (Nat → Int32)) : Prop := ∃ (c : Nat) (B : Nat → Nat → Prop), s.1 = nI c ∧ yr_P s.2 B ∧ gr_ok B ∧ gr_k B = gr_k A ∧ gr_e B + 2 * c = gr_e A ∧ (∀ a b, 12 * a + b < i → B a b → ¬ gr_R (gr_mi B a b) a b)
theorem yw_sp2 {post : Int32 → SY → Prop} (hA : gr_ok A) (hY : yr_P nx A) (hK : ∀ x, x < 12 → kp x = nx x) (h : ∀ c nx', 2 * c + 24 = gr_e A + 2 * gr_k A → yr_P nx' A → post (nI c) (nx', kp)) : ∃ n, wY_spare_30 post n 0 0 nx kp := by
  refine loop_0 (fun n i (s : Int32 × (Nat → Int32)) => wY_spare_30 post n s.1 (nI i) s.2 kp) (yw_I A) 144 (0, nx) ?_ ?_ ?_
  · exact ⟨0, A, rfl, hY, hA, rfl, rfl, fun a b hab => absurd hab (Nat.not_lt_zero _)⟩
  · rintro n ⟨x1, s⟩ ⟨c, B, e1, hB, hO, hk, hc, hbr⟩
    have e1' : x1 = nI c := e1
    subst e1'
    refine br_t (by decide) (yw_sp3 ?_)
    intro nx' hx'
    have hF : gr_F B := fun a b ab => hbr a b (by have := hO.2 a b ab; omega) ab
    have hf := gr_fc (gr_e B) B (Nat.le_refl _) hO hF
    refine h c nx' (by omega) ?_
    intro x hx
    rw [hx' x hx, hK x hx]
    exact hY x hx
  · rintro n i ⟨x1, s⟩ hi ⟨c, B, e1, hB, hO, hk, hc, hbr⟩ hnext
    have e1' : x1 = nI c := e1
    subst e1'
    have hB' : yr_P s B := hB
    have hd : i / 12 < 12 := by omega
    have hr : i % 12 < 12 := by omega
    have hi12 : 12 * (i / 12) + i % 12 = i := by omega
    have ed : nI i / 12 = nI (i / 12) := pk_div (a := i) (d := 12) (by omega) (by decide) (by decide)
    have er : nI i - nI i / 12 * 12 = nI (i % 12) := pk_rem (a := i) (d := 12) (by omega) (by decide) (by decide)
    refine br_f (nI_ge (b := 144) hi (by decide)) ?_
    dsimp only
    rw [er, ed]
    refine And.intro (by decide) (And.intro (by decide) ?_)
    refine yw_isEdge hB' hd hr (fun ab => ?_) (fun nab => ?_)
    · refine br_f (by decide) (And.intro (by decide) (And.intro (by decide) ?_))
      refine yw_bridge hO hB' ab ?_ ?_
      · intro nx1 hY1 hre
        refine br_t rfl (And.intro (by decide) (And.intro (by decide) ?_))
        refine yw_take hY1 hd hr (hO.2 _ _ ab).2.2 ?_
        intro nx2 hY2
        refine nm_r (nI_1 c) (nm_r (nI_1 i) (hnext (nI (c + 1), nx2) ?_))
        have he := gr_em hO ab
        refine ⟨c + 1, gr_mi B (i / 12) (i % 12), rfl, hY2, gr_okm hO, (gr_ks hO ab hre).trans hk, by omega, ?_⟩
        intro a b hab hB2 r
        by_cases z : 12 * a + b = i
        · have hbb := hO.2 a b hB2.1
          have z1 : a = i / 12 := by omega
          have z2 : b = i % 12 := by omega
          exact hB2.2 (Or.inl ⟨z1, z2⟩)
        · exact hbr a b (by omega) hB2.1 (gr_mono (fun x y xy => ⟨xy.1.1, xy.2⟩) r)
      · intro nx1 hY1 hre
        refine br_f (by decide) (nm_r (nI_1 i) (hnext (nI c, nx1) ?_))
        refine ⟨c, B, rfl, hY1, hO, hk, hc, ?_⟩
        intro a b hab hB2 r
        by_cases z : 12 * a + b = i
        · have hbb := hO.2 a b hB2
          have z1 : a = i / 12 := by omega
          have z2 : b = i % 12 := by omega
          rw [z1, z2] at r
          exact hre r
        · exact hbr a b (by omega) hB2 r
    · refine br_t rfl (nm_r (nI_1 i) (hnext (nI c, s) ?_))
      refine ⟨c, B, rfl, hB, hO, hk, hc, ?_⟩
      intro a b hab hB2 r
      by_cases z : 12 * a + b = i
      · have hbb := hO.2 a b hB2
        have z1 : a = i / 12 := by omega
        have z2 : b = i % 12 := by omega
        rw [z1, z2] at hB2
        exact nab hB2
      · exact hbr a b (by omega) hB2 r
theorem yw_spare {post : Int32 → SY → Prop} (hA : gr_ok A) (hY : yr_P nx A) (h : ∀ c nx' kp', 2 * c + 24 = gr_e A + 2 * gr_k A → yr_P nx' A → post (nI c) (nx', kp')) : wpY_spare post (nx, kp) := by
  unfold wpY_spare
  dsimp only
  refine loop_0 (fun n i s => wY_spare_4 post 0 n (nI i) nx s) (fun i s => ∀ x, x < i → s x = nx x) 12 kp (fun x hx => absurd hx (Nat.not_lt_zero x)) ?_ ?_
  · intro n s hs
    exact br_t bm_le (yw_sp2 hA hY hs (fun c nx' => h c nx' s))
  · intro n i s hi hs hk
    refine br_f (bm_ge hi) ?_
    rw [bm_cl hi]
    refine And.intro (bm_i12 hi) (And.intro (bm_i12 hi) (nm_e (nm_r (nI_1 i) (hk _ ?_))))
    intro x hx
    by_cases z : x = i
    · rw [z, pk_us]
    · rw [pk_un z]
      exact hs x (by omega)
/-! ===== isolate: the edges from u to the points below n are gone ===== -/
def gr_i (A : Nat → Nat → Prop) (u n : Nat) : Nat → Nat → Prop := fun a b => A a b ∧ ¬ ((a = u ∧ b < n) ∨ (b = u ∧ a < n))
theorem gr_i0 (u : Nat) : gr_i A u 0 = A := by
  funext a b
  exact propext ⟨fun h => h.1, fun h => ⟨h, fun z => by omega⟩⟩
theorem gr_io {u n : Nat} (h : gr_ok A) : gr_ok (gr_i A u n) := ⟨fun a b ab => ⟨h.1 a b ab.1, fun z => ab.2 z.symm⟩, fun a b ab => h.2 a b ab.1⟩
theorem gr_is (h : gr_ok A) {u n : Nat} (hn : ¬ gr_i A u n u n) : gr_i A u (n + 1) = gr_i A u n := by
  funext a b
  refine propext ⟨fun k => ⟨k.1, fun z => k.2 (by omega)⟩, fun k => ⟨k.1, ?_⟩⟩
  rintro (⟨z1, z2⟩ | ⟨z1, z2⟩)
  · by_cases y : b = n
    · rw [z1, y] at k
      exact hn k
    · exact k.2 (Or.inl ⟨z1, by omega⟩)
  · by_cases y : a = n
    · rw [z1, y] at k
      exact hn ⟨h.1 _ _ k.1, fun z => k.2 z.symm⟩
    · exact k.2 (Or.inr ⟨z1, by omega⟩)
theorem gr_it {u n : Nat} : gr_i A u (n + 1) = gr_mi (gr_i A u n) u n := by
  funext a b
  refine propext ⟨fun k => ⟨⟨k.1, fun z => k.2 (by omega)⟩, fun z => k.2 ?_⟩, fun k => ⟨k.1.1, fun z => ?_⟩⟩
  · rcases z with ⟨z1, z2⟩ | ⟨z1, z2⟩ <;> omega
  · by_cases y : gr_uv u n a b
    · exact k.2 y
    · refine k.1.2 ?_
      have y1 : ¬ (a = u ∧ b = n) := fun w => y (Or.inl w)
      have y2 : ¬ (a = n ∧ b = u) := fun w => y (Or.inr w)
      omega
theorem yw_isolate {post : Int32 → SY → Prop} {u : Nat} (hA : gr_ok A) (hY : yr_P nx A) (hu : u < 12) (h : ∀ nx', yr_P nx' (gr_i A u 12) → post (nI (gr_k (gr_i A u 12)) - nI (gr_k A)) (nx', kp)) : wpY_isolate post (nx, kp) (nI u) := by
  unfold wpY_isolate
  dsimp only
  refine yw_pt1 hu ?_
  refine br_f (by decide) ?_
  refine yw_parts hA hY ?_
  refine loop_0 (fun n i s => wY_isolate_17 post (nI u) (nI (gr_k A)) n (nI i) s kp) (fun i s => yr_P s (gr_i A u i)) 12 nx ?_ ?_ ?_
  · rw [gr_i0]
    exact hY
  · intro n s hs
    refine br_t bm_le ?_
    exact yw_parts (gr_io hA) hs (h s hs)
  · intro n i s hi hs hk
    refine br_f (bm_ge hi) (And.intro (bm_i12 hu) (yw_in (yr_at hs hu) (by omega) (fun z => ?_) (fun z => ?_)))
    · refine br_f (by decide) (yw_take hs hu hi ((gr_io hA).2 _ _ z).2.2 ?_)
      intro nx' hY'
      refine nm_r (nI_1 i) (hk nx' ?_)
      rw [gr_it]
      exact hY'
    · refine br_t rfl (nm_r (nI_1 i) (hk s ?_))
      rw [gr_is hA z]
      exact hs
theorem yw_isolate0 {post : Int32 → SY → Prop} {p : Int32} (hp : p < 0 ∨ nI 12 ≤ p) (h : post (-1) (nx, kp)) : wpY_isolate post (nx, kp) p := by
  unfold wpY_isolate
  dsimp only
  refine yw_pt0 hp ?_
  exact br_t rfl h
/-! ===== the greatest ===== -/
def gr_m (f : Nat → Nat) : Nat → Nat
  | 0 => 0
  | n + 1 => if f n ≤ gr_m f n then gr_m f n else f n
theorem gr_ms (f : Nat → Nat) (n : Nat) : gr_m f (n + 1) = if f n ≤ gr_m f n then gr_m f n else f n := rfl
theorem gr_mge (f : Nat → Nat) (n x : Nat) (hx : x < n) : f x ≤ gr_m f n := by
  induction n with
  | zero => omega
  | succ n ih =>
    rw [gr_ms]
    by_cases z : x = n
    · rw [z]
      split <;> omega
    · have := ih (by omega)
      split <;> omega
theorem gr_mle {f : Nat → Nat} {n k : Nat} (h : ∀ x, f x ≤ k) : gr_m f n ≤ k := by
  induction n with
  | zero => exact Nat.zero_le k
  | succ n ih =>
    rw [gr_ms]
    have := h n
    split <;> omega
theorem yw_greatest {post : Int32 → Prop} (hA : gr_ok A) (hY : yr_P nx A) (h : post (nI (gr_m (fun x => gr_c (gr_R A x) 12) 12))) : wpY_greatest post (nx, kp) := by
  have bd : ∀ n, gr_m (fun x => gr_c (gr_R A x) 12) n ≤ 12 := fun n => gr_mle (fun x => gr_cle _ 12)
  refine loop_0 (fun n i s => wY_greatest_4 post nx kp n s (nI i)) (fun i s => s = nI (gr_m (fun x => gr_c (gr_R A x) 12) i)) 12 0 rfl ?_ ?_
  · rintro n s rfl
    exact br_t bm_le h
  · rintro n i s hi rfl hk
    refine br_f (bm_ge hi) (yw_walk hA hY hi ?_)
    intro r hr
    refine yw_size hr ?_
    have b1 := bd i
    have b2 := gr_cle (gr_R A i) 12
    refine pk_le (gr_c (gr_R A i) 12) (gr_m (fun x => gr_c (gr_R A x) 12) i) (fun z => ?_) (fun z => ?_)
    · refine nm_r (nI_1 i) (hk _ ?_)
      rw [gr_ms, if_pos z]
    · refine nm_r (nI_1 i) (hk _ ?_)
      rw [gr_ms, if_neg (by omega)]
/-! ===== link, cut, part ===== -/
theorem yw_part {post : Int32 → Prop} {p : Nat} (hA : gr_ok A) (hY : yr_P nx A) (hp : p < 12) (h : ∀ r, bm_k r (gr_R A p) → post r) : wpY_part post (nx, kp) (nI p) := by
  unfold wpY_part
  dsimp only
  refine yw_pt1 hp ?_
  refine br_f (by decide) ?_
  exact yw_walk hA hY hp h
theorem yw_part0 {post : Int32 → Prop} {p : Int32} (hp : p < 0 ∨ nI 12 ≤ p) (h : post (-1)) : wpY_part post (nx, kp) p := by
  unfold wpY_part
  dsimp only
  refine yw_pt0 hp ?_
  exact br_t rfl h
end
end
section
/-! ===== the reference's link and cut; which couples are good ===== -/
def cp_bad (p q : Int32) : Prop := (p < 0 ∨ nI 12 ≤ p) ∨ (∃ a, a < 12 ∧ p = nI a) ∧ (q < 0 ∨ nI 12 ≤ q)
theorem cp_one (p : Int32) : (p < 0 ∨ nI 12 ≤ p) ∨ ∃ a, a < 12 ∧ p = nI a := by
  rcases pk_ix p (n := 12) (by decide) with h | h | h
  · exact Or.inl (Or.inl h)
  · exact Or.inl (Or.inr h)
  · exact Or.inr h
theorem cp_two (p q : Int32) : cp_bad p q ∨ (∃ a, a < 12 ∧ p = nI a ∧ q = nI a) ∨ ∃ a b, a < 12 ∧ b < 12 ∧ a ≠ b ∧ p = nI a ∧ q = nI b := by
  rcases cp_one p with h | ⟨a, ha, h⟩
  · exact Or.inl (Or.inl h)
  · rcases cp_one q with k | ⟨b, hb, k⟩
    · exact Or.inl (Or.inr ⟨⟨a, ha, h⟩, k⟩)
    · by_cases z : a = b
      · exact Or.inr (Or.inl ⟨a, ha, h, by rw [k, z]⟩)
      · exact Or.inr (Or.inr ⟨a, b, ha, hb, z, h, k⟩)
section
variable {nx kp : Nat → Int32} {A : Nat → Nat → Prop}
theorem yw_link {post : Int32 → SY → Prop} {a b : Nat} (hA : gr_ok A) (hY : yr_P nx A) (ha : a < 12) (hb : b < 12) (hab : a ≠ b)
    (h0 : A a b → post 0 (nx, kp)) (h30 : ¬ A a b → gr_e A / 2 = 30 → post (-2) (nx, kp))
    (h1 : ¬ A a b → gr_e A / 2 ≠ 30 → gr_R A a b → ∀ nx', yr_P nx' (gr_pl A a b) → post 1 (nx', kp))
    (h2 : ¬ A a b → gr_e A / 2 ≠ 30 → ¬ gr_R A a b → ∀ nx', yr_P nx' (gr_pl A a b) → post 2 (nx', kp)) : wpY_link post (nx, kp) (nI a) (nI b) := by
  have hb144 : gr_e A ≤ 12 * 12 := gr_sb (fun x => gr_cle (A x) 12)
  unfold wpY_link
  dsimp only
  refine yw_pt1 ha ?_
  refine br_f (by decide) ?_
  refine yw_pt1 hb ?_
  refine br_f (by decide) ?_
  refine br_f (bm_ne ha hb hab) ?_
  refine And.intro (bm_i12 ha) (yw_in (yr_at hY ha) (by omega) (fun z => ?_) (fun z => ?_))
  · exact br_f (by decide) (h0 z)
  · refine br_t rfl ?_
    refine yw_edges hY ?_
    refine pk_eq (gr_e A / 2) 30 (fun y => ?_) (fun y => ?_)
    · exact h30 z y
    · refine yw_conn hA hY ha hb (fun r => ?_) (fun r => ?_)
      · refine yw_put hY ha hb hab ?_
        intro nx' hY'
        exact br_f (by decide) (h1 z y r nx' hY')
      · refine yw_put hY ha hb hab ?_
        intro nx' hY'
        exact br_t rfl (h2 z y r nx' hY')
theorem yw_cut {post : Int32 → SY → Prop} {a b : Nat} (hA : gr_ok A) (hY : yr_P nx A) (ha : a < 12) (hb : b < 12) (hab : a ≠ b)
    (h0 : ¬ A a b → post 0 (nx, kp)) (h1 : A a b → gr_R (gr_mi A a b) a b → ∀ nx', yr_P nx' (gr_mi A a b) → post 1 (nx', kp))
    (h2 : A a b → ¬ gr_R (gr_mi A a b) a b → ∀ nx', yr_P nx' (gr_mi A a b) → post 2 (nx', kp)) : wpY_cut post (nx, kp) (nI a) (nI b) := by
  unfold wpY_cut
  dsimp only
  refine yw_pt1 ha ?_
  refine br_f (by decide) ?_
  refine yw_pt1 hb ?_
  refine br_f (by decide) ?_
  refine br_f (bm_ne ha hb hab) ?_
  refine And.intro (bm_i12 ha) (yw_in (yr_at hY ha) (by omega) (fun z => ?_) (fun z => ?_))
  · refine br_f (by decide) ?_
    refine yw_take hY ha hb hab ?_
    intro nx' hY'
    refine yw_conn (gr_okm hA) hY' ha hb (fun r => ?_) (fun r => ?_)
    · exact br_f (by decide) (h1 z r nx' hY')
    · exact br_t rfl (h2 z r nx' hY')
  · exact br_t rfl (h0 z)
theorem yw_link0 {post : Int32 → SY → Prop} {p q : Int32} (h : cp_bad p q ∨ (∃ a, a < 12 ∧ p = nI a ∧ q = nI a)) (h0 : post (-1) (nx, kp)) : wpY_link post (nx, kp) p q := by
  unfold wpY_link
  dsimp only
  rcases h with (h | ⟨⟨a, ha, rfl⟩, h⟩) | ⟨a, ha, rfl, rfl⟩
  · refine yw_pt0 h ?_
    exact br_t rfl h0
  · refine yw_pt1 ha ?_
    refine br_f (by decide) ?_
    refine yw_pt0 h ?_
    exact br_t rfl h0
  · refine yw_pt1 ha ?_
    refine br_f (by decide) ?_
    refine yw_pt1 ha ?_
    refine br_f (by decide) ?_
    exact br_t rfl h0
theorem yw_cut0 {post : Int32 → SY → Prop} {p q : Int32} (h : cp_bad p q ∨ (∃ a, a < 12 ∧ p = nI a ∧ q = nI a)) (h0 : post (-1) (nx, kp)) : wpY_cut post (nx, kp) p q := by
  unfold wpY_cut
  dsimp only
  rcases h with (h | ⟨⟨a, ha, rfl⟩, h⟩) | ⟨a, ha, rfl, rfl⟩
  · refine yw_pt0 h ?_
    exact br_t rfl h0
  · refine yw_pt1 ha ?_
    refine br_f (by decide) ?_
    refine yw_pt0 h ?_
    exact br_t rfl h0
  · refine yw_pt1 ha ?_
    refine br_f (by decide) ?_
    refine yw_pt1 ha ?_
    refine br_f (by decide) ?_
    exact br_t rfl h0
end
/-! ===== the component's tables ===== -/
def xr_P (lv it tn on : Nat → Int32) (e : gl_E) : Prop :=
  (∀ x y, x < 12 → y < 12 → e x y = none → lv (12 * x + y) = -1) ∧
  (∀ x y i b, e x y = some (i, b) → lv (12 * x + y) = nI i ∧ it (12 * x + y) = (if b = true then 1 else 0)) ∧
  (∀ i x, i < 4 → x < 12 → bm_k (tn (12 * i + x)) (fun y => e x y = some (i, true))) ∧
  (∀ i x, i < 4 → x < 12 → bm_k (on (12 * i + x)) (fun y => e x y = some (i, false)))
theorem xr_or {m : Int32} {P : Nat → Prop} (h : bm_k m P) (hp : ∀ y, P y → y < 12) {v : Nat} (hv : v < 12) : bm_k (vp_nar .short ((m ||| ((1 : Int32) <<< (nI v &&& 31))).toInt16.toInt32)) (fun y => P y ∨ y = v) := by
  have k := bm_or h (bm_one (v := v) (by omega))
  rw [bm_s k (fun y hy => hy.elim (hp y) (fun z => by omega))]
  exact k
theorem xr_an {m : Int32} {P : Nat → Prop} (h : bm_k m P) (hp : ∀ y, P y → y < 12) {v : Nat} (hv : v < 12) : bm_k (vp_nar .short ((m &&& (((1 : Int32) <<< (nI v &&& 31)) ^^^ (-1))).toInt16.toInt32)) (fun y => P y ∧ ¬ y = v) := by
  have k := bm_an h (bm_one (v := v) (by omega))
  rw [bm_s k (fun y hy => hp y hy.1)]
  exact k
theorem xr_tw {T : Nat → Int32} {M N : Nat → Nat → Nat → Prop} {f u v : Nat} {wu wv : Int32} (hT : ∀ i x, i < 4 → x < 12 → bm_k (T (12 * i + x)) (M i x)) (hu : u < 12) (hv : v < 12) (hwu : bm_k wu (N f u)) (hwv : bm_k wv (N f v))
    (hN : ∀ i x, i < 4 → x < 12 → (i ≠ f ∨ (x ≠ u ∧ x ≠ v)) → ∀ y, y < 32 → (M i x y ↔ N i x y)) : ∀ i x, i < 4 → x < 12 → bm_k (upd (upd T (12 * f + u) wu) (12 * f + v) wv (12 * i + x)) (N i x) := by
  intro i x hi hx
  by_cases z : i = f ∧ x = v
  · rw [z.1, z.2, pk_us]
    exact hwv
  · rw [pk_un (by omega)]
    by_cases y : i = f ∧ x = u
    · rw [y.1, y.2, pk_us]
      exact hwu
    · rw [pk_un (by omega)]
      exact bm_cg (hT i x hi hx) (hN i x hi hx (by omega))
section
variable {post : SX → Prop} {ec pc : Int32} {lv it tn on : Nat → Int32} {e : gl_E} {u v f : Nat}
theorem xr_b (ho : gl_ok e) {x i : Nat} {t : Bool} : ∀ y, e x y = some (i, t) → y < 12 := fun y q => (ho.2 x y i t q).2.1
theorem xw_unplace {b : Bool} (ho : gl_ok e) (hR : xr_P lv it tn on e) (q : e u v = some (f, b)) (h : ∀ lv' tn' on', xr_P lv' it tn' on' (gl_s e u v none) → post (ec, pc, lv', it, tn', on')) : wpX_unplace post (ec, pc, lv, it, tn, on) (nI u) (nI v) := by
  obtain ⟨hu, hv, huv, hf⟩ := ho.2 u v f b q
  obtain ⟨r1, r2, r3, r4⟩ := hR
  have q' : e v u = some (f, b) := (ho.1 v u).trans q
  have hf4 : f < 4 := by omega
  have hf12 : f < 12 := by omega
  have l1 : lv ((12 : Int32) * nI u + nI v).toNatClampNeg = nI f := by
    rw [bm_ic hu hv]
    exact (r2 u v f b q).1
  unfold wpX_unplace
  dsimp only
  refine And.intro (bm_i1 hu hv) (nm_r l1 ?_)
  rw [bm_ic hu hv, bm_ic hv hu, bm_ic hf12 hu, bm_ic hf12 hv]
  refine And.intro (bm_i1 hu hv) (nm_e (And.intro (bm_i1 hv hu) (nm_e ?_)))
  refine And.intro (bm_i4 hf4 hu) (And.intro (bm_i4 hf4 hu) (nm_e (And.intro (bm_i4 hf4 hv) (And.intro (bm_i4 hf4 hv) (nm_e ?_)))))
  refine And.intro (bm_i4 hf4 hu) (And.intro (bm_i4 hf4 hu) (nm_e (And.intro (bm_i4 hf4 hv) (And.intro (bm_i4 hf4 hv) (nm_e (h _ _ _ ?_))))))
  have cell : ∀ t i x, i < 4 → x < 12 → (i ≠ f ∨ (x ≠ u ∧ x ≠ v)) → ∀ y, y < 32 → (e x y = some (i, t) ↔ gl_s e u v none x y = some (i, t)) := by
    intro t i x hi hx hne y hy
    by_cases z : gr_uv u v x y
    · rw [gl_s1 z]
      refine ⟨fun w => ?_, fun w => (by cases w)⟩
      rcases z with ⟨z1, z2⟩ | ⟨z1, z2⟩
      · rw [z1, z2] at w
        have := (gl_inj q w).1
        omega
      · rw [z1, z2] at w
        have := (gl_inj q' w).1
        omega
    · rw [gl_s0 z]
  have word : ∀ t x y, (x = u ∧ y = v) ∨ (x = v ∧ y = u) → ∀ z, z < 32 → ((e x z = some (f, t) ∧ ¬ z = y) ↔ gl_s e u v none x z = some (f, t)) := by
    intro t x y hxy z hz
    by_cases w : gr_uv u v x z
    · rw [gl_s1 w]
      refine ⟨fun k => absurd ?_ k.2, fun k => (by cases k)⟩
      rcases w with ⟨w1, w2⟩ | ⟨w1, w2⟩ <;> omega
    · rw [gl_s0 w]
      refine ⟨fun k => k.1, fun k => ⟨k, fun y' => w ?_⟩⟩
      rcases hxy with ⟨w1, w2⟩ | ⟨w1, w2⟩
      · exact Or.inl ⟨w1, y'.trans w2⟩
      · exact Or.inr ⟨w1, y'.trans w2⟩
  refine ⟨?_, ?_, ?_, ?_⟩
  · intro x y hx hy z
    by_cases z1 : x = v ∧ y = u
    · rw [z1.1, z1.2, pk_us]
      exact bm_nm
    · rw [pk_un (by omega)]
      by_cases z2 : x = u ∧ y = v
      · rw [z2.1, z2.2, pk_us]
        exact bm_nm
      · rw [pk_un (by omega)]
        rw [gl_s0 (fun w => w.elim z2 z1)] at z
        exact r1 x y hx hy z
  · intro x y i t z
    have w : ¬ gr_uv u v x y := by
      intro w
      rw [gl_s1 w] at z
      cases z
    rw [gl_s0 w] at z
    have hb := ho.2 x y i t z
    have w1 : ¬ (x = u ∧ y = v) := fun k => w (Or.inl k)
    have w2 : ¬ (x = v ∧ y = u) := fun k => w (Or.inr k)
    rw [pk_un (by omega), pk_un (by omega)]
    exact r2 x y i t z
  · refine xr_tw r3 hu hv (N := fun i x y => gl_s e u v none x y = some (i, true)) ?_ ?_ (cell true)
    · exact bm_cg (xr_an (r3 f u hf4 hu) (xr_b ho) hv) (word true u v (Or.inl ⟨rfl, rfl⟩))
    · rw [pk_un (by omega)]
      exact bm_cg (xr_an (r3 f v hf4 hv) (xr_b ho) hu) (word true v u (Or.inr ⟨rfl, rfl⟩))
  · refine xr_tw r4 hu hv (N := fun i x y => gl_s e u v none x y = some (i, false)) ?_ ?_ (cell false)
    · exact bm_cg (xr_an (r4 f u hf4 hu) (xr_b ho) hv) (word false u v (Or.inl ⟨rfl, rfl⟩))
    · rw [pk_un (by omega)]
      exact bm_cg (xr_an (r4 f v hf4 hv) (xr_b ho) hu) (word false v u (Or.inr ⟨rfl, rfl⟩))
/-- the four tables behind a place -/
theorem xr_pl {lv' it' tn' on' : Nat → Int32} {c : Bool} (ho : gl_ok e) (hR : xr_P lv it tn on e) (hu : u < 12) (hv : v < 12) (huv : u ≠ v) (hf : f < 4) (q : e u v = none)
    (h1 : lv' = upd (upd lv (12 * u + v) (nI f)) (12 * v + u) (nI f)) (h2 : it' = upd (upd it (12 * u + v) (if c = true then 1 else 0)) (12 * v + u) (if c = true then 1 else 0))
    (h3 : ∀ i x, i < 4 → x < 12 → bm_k (tn' (12 * i + x)) (fun y => e x y = some (i, true) ∨ (c = true ∧ i = f ∧ gr_uv u v x y)))
    (h4 : ∀ i x, i < 4 → x < 12 → bm_k (on' (12 * i + x)) (fun y => e x y = some (i, false) ∨ (c = false ∧ i = f ∧ gr_uv u v x y))) : xr_P lv' it' tn' on' (gl_s e u v (some (f, c))) := by
  obtain ⟨r1, r2, r3, r4⟩ := hR
  have q' : e v u = none := (ho.1 v u).trans q
  have cell : ∀ t i x y, (e x y = some (i, t) ∨ (c = t ∧ i = f ∧ gr_uv u v x y)) ↔ gl_s e u v (some (f, c)) x y = some (i, t) := by
    intro t i x y
    by_cases z : gr_uv u v x y
    · rw [gl_s1 z]
      have n : e x y = none := by
        rcases z with ⟨z1, z2⟩ | ⟨z1, z2⟩
        · rw [z1, z2]
          exact q
        · rw [z1, z2]
          exact q'
      refine ⟨fun w => ?_, fun w => ?_⟩
      · rcases w with w | ⟨w1, w2, _⟩
        · rw [n] at w
          cases w
        · rw [w1, w2]
      · cases w
        exact Or.inr ⟨rfl, rfl, z⟩
    · rw [gl_s0 z]
      exact ⟨fun w => w.resolve_right (fun k => z k.2.2), Or.inl⟩
  refine ⟨?_, ?_, fun i x hi hx => bm_cg (h3 i x hi hx) (fun y _ => cell true i x y), fun i x hi hx => bm_cg (h4 i x hi hx) (fun y _ => cell false i x y)⟩
  · intro x y hx hy z
    have w : ¬ gr_uv u v x y := by
      intro w
      rw [gl_s1 w] at z
      cases z
    rw [gl_s0 w] at z
    have w1 : ¬ (x = u ∧ y = v) := fun k => w (Or.inl k)
    have w2 : ¬ (x = v ∧ y = u) := fun k => w (Or.inr k)
    rw [h1, pk_un (by omega), pk_un (by omega)]
    exact r1 x y hx hy z
  · intro x y i t z
    rw [h1, h2]
    by_cases w : gr_uv u v x y
    · rw [gl_s1 w] at z
      cases z
      rcases w with ⟨w1, w2⟩ | ⟨w1, w2⟩
      · rw [w1, w2, pk_un (by omega), pk_us, pk_un (by omega), pk_us]
        exact ⟨rfl, rfl⟩
      · rw [w1, w2, pk_us, pk_us]
        exact ⟨rfl, rfl⟩
    · rw [gl_s0 w] at z
      have hb := ho.2 x y i t z
      have w1 : ¬ (x = u ∧ y = v) := fun k => w (Or.inl k)
      have w2 : ¬ (x = v ∧ y = u) := fun k => w (Or.inr k)
      rw [pk_un (by omega), pk_un (by omega), pk_un (by omega), pk_un (by omega)]
      exact r2 x y i t z
theorem xw_place1 (ho : gl_ok e) (hR : xr_P lv it tn on e) (hu : u < 12) (hv : v < 12) (huv : u ≠ v) (hf : f < 4) (q : e u v = none) (h : ∀ lv' it' tn' on', xr_P lv' it' tn' on' (gl_s e u v (some (f, true))) → post (ec, pc, lv', it', tn', on')) : wpX_place post (ec, pc, lv, it, tn, on) (nI u) (nI v) (nI f) 1 := by
  have hf12 : f < 12 := by omega
  have r3 := hR.2.2.1
  have r4 := hR.2.2.2
  unfold wpX_place
  dsimp only
  rw [bm_ic hu hv, bm_ic hv hu, bm_ic hf12 hu, bm_ic hf12 hv]
  refine And.intro (bm_i1 hu hv) (nm_e (And.intro (bm_i1 hv hu) (nm_e (And.intro (bm_i1 hu hv) (nm_e (And.intro (bm_i1 hv hu) (nm_e (br_f (by decide) ?_))))))))
  refine And.intro (bm_i4 hf hu) (And.intro (bm_i4 hf hu) (nm_e (And.intro (bm_i4 hf hv) (And.intro (bm_i4 hf hv) (nm_e (h _ _ _ _ ?_))))))
  refine xr_pl (c := true) ho hR hu hv huv hf q ?_ rfl ?_ ?_
  · rw [bm_nb (by omega)]
  · refine xr_tw r3 hu hv (N := fun i x y => e x y = some (i, true) ∨ (true = true ∧ i = f ∧ gr_uv u v x y)) ?_ ?_ ?_
    · refine bm_cg (xr_or (r3 f u hf hu) (xr_b ho) hv) (fun y _ => ⟨fun k => k.imp id (fun z => ⟨rfl, rfl, Or.inl ⟨rfl, z⟩⟩), fun k => k.imp id (fun z => ?_)⟩)
      rcases z.2.2 with w | w <;> omega
    · rw [pk_un (by omega)]
      refine bm_cg (xr_or (r3 f v hf hv) (xr_b ho) hu) (fun y _ => ⟨fun k => k.imp id (fun z => ⟨rfl, rfl, Or.inr ⟨rfl, z⟩⟩), fun k => k.imp id (fun z => ?_)⟩)
      rcases z.2.2 with w | w <;> omega
    · intro i x hi hx hne y hy
      refine ⟨Or.inl, fun k => k.resolve_right (fun z => ?_)⟩
      rcases z.2.2 with w | w <;> omega
  · intro i x hi hx
    exact bm_cg (r4 i x hi hx) (fun y _ => ⟨Or.inl, fun k => k.resolve_right (fun z => by cases z.1)⟩)
theorem xw_place0 (ho : gl_ok e) (hR : xr_P lv it tn on e) (hu : u < 12) (hv : v < 12) (huv : u ≠ v) (hf : f < 4) (q : e u v = none) (h : ∀ lv' it' tn' on', xr_P lv' it' tn' on' (gl_s e u v (some (f, false))) → post (ec, pc, lv', it', tn', on')) : wpX_place post (ec, pc, lv, it, tn, on) (nI u) (nI v) (nI f) 0 := by
  have hf12 : f < 12 := by omega
  have r3 := hR.2.2.1
  have r4 := hR.2.2.2
  unfold wpX_place
  dsimp only
  rw [bm_ic hu hv, bm_ic hv hu, bm_ic hf12 hu, bm_ic hf12 hv]
  refine And.intro (bm_i1 hu hv) (nm_e (And.intro (bm_i1 hv hu) (nm_e (And.intro (bm_i1 hu hv) (nm_e (And.intro (bm_i1 hv hu) (nm_e (br_t rfl ?_))))))))
  refine And.intro (bm_i4 hf hu) (And.intro (bm_i4 hf hu) (nm_e (And.intro (bm_i4 hf hv) (And.intro (bm_i4 hf hv) (nm_e (h _ _ _ _ ?_))))))
  refine xr_pl (c := false) ho hR hu hv huv hf q ?_ rfl ?_ ?_
  · rw [bm_nb (by omega)]
  · intro i x hi hx
    exact bm_cg (r3 i x hi hx) (fun y _ => ⟨Or.inl, fun k => k.resolve_right (fun z => by cases z.1)⟩)
  · refine xr_tw r4 hu hv (N := fun i x y => e x y = some (i, false) ∨ (false = false ∧ i = f ∧ gr_uv u v x y)) ?_ ?_ ?_
    · refine bm_cg (xr_or (r4 f u hf hu) (xr_b ho) hv) (fun y _ => ⟨fun k => k.imp id (fun z => ⟨rfl, rfl, Or.inl ⟨rfl, z⟩⟩), fun k => k.imp id (fun z => ?_)⟩)
      rcases z.2.2 with w | w <;> omega
    · rw [pk_un (by omega)]
      refine bm_cg (xr_or (r4 f v hf hv) (xr_b ho) hu) (fun y _ => ⟨fun k => k.imp id (fun z => ⟨rfl, rfl, Or.inr ⟨rfl, z⟩⟩), fun k => k.imp id (fun z => ?_)⟩)
      rcases z.2.2 with w | w <;> omega
    · intro i x hi hx hne y hy
      refine ⟨Or.inl, fun k => k.resolve_right (fun z => ?_)⟩
      rcases z.2.2 with w | w <;> omega
end
end
section
/-! ===== the component's walks that read, and the rise of one edge ===== -/
section
variable {ec pc : Int32} {lv it tn on : Nat → Int32} {e : gl_E}
theorem xw_pt1 {post : Int32 → Prop} {a : Nat} (ha : a < 12) (h : post 1) : wpX_isPoint post (ec, pc, lv, it, tn, on) (nI a) :=
  br_f (bm_po ha) (br_f (bm_ge ha) h)
theorem xw_pt0 {post : Int32 → Prop} {p : Int32} (hp : p < 0 ∨ nI 12 ≤ p) (h : post 0) : wpX_isPoint post (ec, pc, lv, it, tn, on) p := by
  rcases hp with hp | hp
  · exact br_t hp h
  · exact br_f (yw_bad hp).1 (br_t (yw_bad hp).2.2 h)
theorem xw_cp1 {post : Int32 → Prop} {a b : Nat} (ha : a < 12) (hb : b < 12) (hab : a ≠ b) (h : post 1) : wpX_isCouple post (ec, pc, lv, it, tn, on) (nI a) (nI b) := by
  unfold wpX_isCouple
  dsimp only
  refine xw_pt1 ha ?_
  refine br_f (by decide) ?_
  refine xw_pt1 hb ?_
  refine br_f (by decide) ?_
  exact br_f (bm_ne ha hb hab) h
theorem xw_cp0 {post : Int32 → Prop} {p q : Int32} (h : cp_bad p q ∨ (∃ a, a < 12 ∧ p = nI a ∧ q = nI a)) (h0 : post 0) : wpX_isCouple post (ec, pc, lv, it, tn, on) p q := by
  unfold wpX_isCouple
  dsimp only
  rcases h with (h | ⟨⟨a, ha, rfl⟩, h⟩) | ⟨a, ha, rfl, rfl⟩
  · refine xw_pt0 h ?_
    exact br_t rfl h0
  · refine xw_pt1 ha ?_
    refine br_f (by decide) ?_
    refine xw_pt0 h ?_
    exact br_t rfl h0
  · refine xw_pt1 ha ?_
    refine br_f (by decide) ?_
    refine xw_pt1 ha ?_
    refine br_f (by decide) ?_
    exact br_t rfl h0
theorem xw_isEdge {post : Int32 → Prop} {a b : Nat} (ho : gl_ok e) (hR : xr_P lv it tn on e) (ha : a < 12) (hb : b < 12) (hab : a ≠ b) (h1 : gl_d e a b → post 1) (h0 : ¬ gl_d e a b → post 0) : wpX_isEdge post (ec, pc, lv, it, tn, on) (nI a) (nI b) := by
  unfold wpX_isEdge
  dsimp only
  refine xw_cp1 ha hb hab ?_
  refine br_f (by decide) (And.intro (bm_i1 ha hb) ?_)
  rw [bm_ic ha hb]
  cases q : e a b with
  | none =>
    rw [hR.1 a b ha hb q]
    exact br_t (by decide) (h0 (fun z => z q))
  | some c =>
    have hc := ho.2 a b c.1 c.2 q
    rw [(hR.2.1 a b c.1 c.2 q).1]
    exact br_f (nI_pos (by omega)) (h1 (fun z => by rw [q] at z; cases z))
theorem xw_isEdge0 {post : Int32 → Prop} {p q : Int32} (h : cp_bad p q ∨ (∃ a, a < 12 ∧ p = nI a ∧ q = nI a)) (h0 : post 0) : wpX_isEdge post (ec, pc, lv, it, tn, on) p q := by
  unfold wpX_isEdge
  dsimp only
  refine xw_cp0 h ?_
  exact br_t rfl h0
theorem xw_bits {post : Int32 → Prop} {m : Int32} {P : Nat → Prop} (hm : bm_k m P) (h : post (nI (gr_c P 12))) : wpX_bitsIn post (ec, pc, lv, it, tn, on) m := by
  refine loop_0 (fun n i s => wX_bitsIn_4 post m ec pc lv it tn on n s (nI i)) (fun i s => s = nI (gr_c P i)) 12 0 rfl ?_ ?_
  · rintro n s rfl
    exact br_t bm_le h
  · rintro n i s hi rfl hk
    have hb := bm_b hm (x := i) (by omega)
    refine br_f (bm_ge hi) (nm_r (e' := nI (gr_c P (i + 1))) ?_ (nm_r (nI_1 i) (hk _ rfl)))
    rw [hb, nI_add, gr_cs]
/-- the least level i and above: the piece that p lies in -/
theorem xw_piece {post : Int32 → Prop} {p i : Nat} (ho : gl_ok e) (hR : xr_P lv it tn on e) (hp : p < 12) (hi4 : i < 4) (h : ∀ r, bm_k r (gr_R (gl_t e i) p) → post r) : wpX_pieceOf post (ec, pc, lv, it, tn, on) (nI p) (nI i) := by
  have r3 := hR.2.2.1
  unfold wpX_pieceOf
  dsimp only
  refine nm_e ?_
  refine loop_0 (fun n r (s : Int32 × Int32) => wX_pieceOf_10 post (nI i) ec pc lv it tn on n s.1 s.2 (nI r)) (fun r s => ∃ T F : Nat → Prop, bm_k s.1 T ∧ bm_k s.2 F ∧ T p ∧ (∀ x, F x → T x) ∧ (∀ x, T x → gr_R (gl_t e i) p x) ∧ (∀ a b, T a → ¬ F a → gl_t e i a b → T b) ∧ ((∃ x, F x) → r + 1 ≤ gr_c T 12)) 12 ((1 : Int32) <<< (nI p &&& 31), (1 : Int32) <<< (nI p &&& 31)) ?_ ?_ ?_
  · refine ⟨fun x => x = p, fun x => x = p, bm_one (by omega), bm_one (by omega), rfl, fun x h => h, fun x hx => ?_, fun a b ta fa => absurd ta fa, fun _ => gr_cp hp rfl⟩
    rw [hx]
    exact gr_refl p
  · rintro n ⟨x3, x4⟩ ⟨T, F, hT, hF, tp, ft, ts, tc, hc⟩
    refine br_t bm_le (h x3 (bm_cg hT (fun x _ => ⟨ts x, fun r => ?_⟩)))
    refine gr_cl r tp (fun a b ta ab => tc a b ta (fun fa => ?_) ab)
    have h1 := hc ⟨a, fa⟩
    have h2 := gr_cle T 12
    omega
  · rintro n r ⟨x3, x4⟩ hr ⟨T, F, hT, hF, tp, ft, ts, tc, hc⟩ hk
    have t12 : ∀ x, T x → x < 12 := fun x tx => gr_lt (gl_tb ho) hp (ts x tx)
    have hF' : bm_k x4 F := hF
    refine br_f (bm_ge hr) ?_
    by_cases z4 : x4 = 0
    · refine br_t z4 (h x3 (bm_cg hT (fun x _ => ⟨ts x, fun r => ?_⟩)))
      refine gr_cl r tp (fun a b ta ab => tc a b ta (fun fa => ?_) ab)
      have := t12 a ta
      exact (bm_z hF').mp z4 a (by omega) fa
    · refine br_f z4 ?_
      refine loop_0 (fun n' x s => wX_pieceOf_28 post (wX_pieceOf_10 post (nI i) ec pc lv it tn on n) (nI i) x3 x4 (nI r) ec pc lv it tn on n' s (nI x)) (fun x s => bm_k s (fun b => ∃ a, a < x ∧ F a ∧ gl_t e i a b)) 12 0 ?_ ?_ ?_
      · exact bm_cg bm_0 (fun b _ => ⟨fun z => z.elim, fun ⟨a, ha, _⟩ => absurd ha (Nat.not_lt_zero a)⟩)
      · intro n' s hs
        refine br_t bm_le (nm_e (nm_e (nm_r (nI_1 r) (hk (x3 ||| (s &&& (x3 ^^^ (-1))), s &&& (x3 ^^^ (-1))) ?_))))
        have kf := bm_an hs hT
        refine ⟨_, _, bm_or hT kf, kf, Or.inl tp, fun x hx => Or.inr hx, ?_, ?_, ?_⟩
        · rintro x (hx | ⟨⟨a, _, fa, ab⟩, _⟩)
          · exact ts x hx
          · exact gr_step (ts a (ft a fa)) ab
        · intro a b ta nf ab
          by_cases tb : T b
          · exact Or.inl tb
          · rcases ta with ta | ta
            · by_cases fa : F a
              · exact Or.inr ⟨⟨a, t12 a ta, fa, ab⟩, tb⟩
              · exact absurd (tc a b ta fa ab) tb
            · exact absurd ta nf
        · rintro ⟨x, ⟨a, ha, fa, ab⟩, nx⟩
          have h1 := hc ⟨a, fa⟩
          have hx := (gl_tb ho a x ab).2
          have h2 := gr_clt (P := T) (Q := fun x => T x ∨ ((∃ a, a < 12 ∧ F a ∧ gl_t e i a x) ∧ ¬ T x)) hx (Or.inr ⟨⟨a, ha, fa, ab⟩, nx⟩) nx (fun _ _ => Or.inl)
          omega
      · intro n' x s hx hs hk'
        refine br_f (bm_ge hx) ?_
        by_cases fx : F x
        · refine br_f (fun z => (bm_t0 hF' (by omega)).mp z fx) ?_
          refine pk_loop (fun n'' j t => wX_pieceOf_51 post (wX_pieceOf_10 post (nI i) ec pc lv it tn on n) (wX_pieceOf_28 post (wX_pieceOf_10 post (nI i) ec pc lv it tn on n) (nI i) x3 x4 (nI r) ec pc lv it tn on n') (nI i) x3 x4 (nI r) (nI x) ec pc lv it tn on n'' t (nI j)) (fun j t => i ≤ j ∧ bm_k t (fun b => (∃ a, a < x ∧ F a ∧ gl_t e i a b) ∨ ∃ k, i ≤ k ∧ k < j ∧ e x b = some (k, true))) 4 i s (by omega) ?_ ?_ ?_
          · refine ⟨Nat.le_refl i, bm_cg hs (fun b _ => ⟨Or.inl, fun k => k.resolve_right ?_⟩)⟩
            rintro ⟨k, h1, h2, _⟩
            omega
          · rintro n'' t ⟨_, ht⟩
            refine br_t (by decide) (nm_r (nI_1 x) (hk' t (bm_cg ht (fun b _ => ⟨?_, ?_⟩))))
            · rintro (⟨a, ha, fa, ab⟩ | ⟨k, h1, _, h2⟩)
              · exact ⟨a, by omega, fa, ab⟩
              · exact ⟨x, by omega, fx, k, h1, h2⟩
            · rintro ⟨a, ha, fa, ab⟩
              by_cases z : a = x
              · obtain ⟨k, h1, h2⟩ := ab
                rw [z] at h2
                have := ho.2 x b k true h2
                exact Or.inr ⟨k, h1, by omega, h2⟩
              · exact Or.inl ⟨a, by omega, fa, ab⟩
          · rintro n'' j t hj ⟨hij, ht⟩ hk2
            refine br_f (nI_nlt (a := 3) (b := j) (by omega) (by decide)) (And.intro (bm_i4 hj hx) ?_)
            rw [bm_ic (by omega) hx]
            refine nm_e (nm_r (nI_1 j) (hk2 _ ⟨by omega, bm_cg (bm_or ht (r3 j x hj hx)) (fun b _ => ⟨?_, ?_⟩)⟩))
            · rintro ((h1 | ⟨k, h1, h2, h3⟩) | h3)
              · exact Or.inl h1
              · exact Or.inr ⟨k, h1, by omega, h3⟩
              · exact Or.inr ⟨j, hij, by omega, h3⟩
            · rintro (h1 | ⟨k, h1, h2, h3⟩)
              · exact Or.inl (Or.inl h1)
              · by_cases z : k = j
                · rw [z] at h3
                  exact Or.inr h3
                · exact Or.inl (Or.inr ⟨k, h1, by omega, h3⟩)
        · refine br_t ((bm_t0 hF' (by omega)).mpr fx) (nm_r (nI_1 x) (hk' s (bm_cg hs (fun b _ => ⟨?_, ?_⟩))))
          · rintro ⟨a, ha, fa, ab⟩
            exact ⟨a, by omega, fa, ab⟩
          · rintro ⟨a, ha, fa, ab⟩
            by_cases z : a = x
            · rw [z] at fa
              exact absurd fa fx
            · exact ⟨a, by omega, fa, ab⟩
theorem xw_lift1 {post : SX → Prop} {x y f : Nat} (ho : gl_ok e) (hR : xr_P lv it tn on e) (q : e x y = some (f, true)) (h : ∀ lv' it' tn' on', xr_P lv' it' tn' on' (gl_s e x y (some (f + 1, true))) → post (ec, pc, lv', it', tn', on')) : wpX_lift post (ec, pc, lv, it, tn, on) (nI x) (nI y) 1 := by
  obtain ⟨hx, hy, hxy, hf⟩ := ho.2 x y f true q
  unfold wpX_lift
  dsimp only
  refine And.intro (bm_i1 hx hy) (nm_r (e' := nI (f + 1)) ?_ ?_)
  · rw [bm_ic hx hy, (hR.2.1 x y f true q).1, nI_1]
  · refine xw_unplace ho hR q ?_
    intro lv1 tn1 on1 hR1
    refine xw_place1 (gl_okn ho hx hy hxy) hR1 hx hy hxy (by omega) (gl_s1 (gr_uv1 x y)) ?_
    intro lv2 it2 tn2 on2 hR2
    rw [gl_ss] at hR2
    exact h lv2 it2 tn2 on2 hR2
theorem xw_lift0 {post : SX → Prop} {x y f : Nat} (ho : gl_ok e) (hR : xr_P lv it tn on e) (q : e x y = some (f, false)) (h : ∀ lv' it' tn' on', xr_P lv' it' tn' on' (gl_s e x y (some (f + 1, false))) → post (ec, pc, lv', it', tn', on')) : wpX_lift post (ec, pc, lv, it, tn, on) (nI x) (nI y) 0 := by
  obtain ⟨hx, hy, hxy, hf⟩ := ho.2 x y f false q
  unfold wpX_lift
  dsimp only
  refine And.intro (bm_i1 hx hy) (nm_r (e' := nI (f + 1)) ?_ ?_)
  · rw [bm_ic hx hy, (hR.2.1 x y f false q).1, nI_1]
  · refine xw_unplace ho hR q ?_
    intro lv1 tn1 on1 hR1
    refine xw_place0 (gl_okn ho hx hy hxy) hR1 hx hy hxy (by omega) (gl_s1 (gr_uv1 x y)) ?_
    intro lv2 it2 tn2 on2 hR2
    rw [gl_ss] at hR2
    exact h lv2 it2 tn2 on2 hR2
end
end
section
/-! ===== the rise of a piece's tree edges ===== -/
abbrev rs_T : Type := (Nat → Int32) × (Nat → Int32) × (Nat → Int32) × (Nat → Int32)
def rs_I (e e' : gl_E) (S : Nat → Prop) (i x y : Nat) : Prop := gl_ok e' ∧ (∀ a b, e' a b = e a b ∨ (S a ∧ S b ∧ e a b = some (i, true) ∧ e' a b = some (i + 1, true))) ∧ (∀ a b, a < b → S a → (a < x ∨ (a = x ∧ b < y)) → e' a b ≠ some (i, true))
def rs_K (e e' : gl_E) (S : Nat → Prop) (i x y : Nat) : Prop := gl_ok e' ∧ (∀ a b, e' a b = e a b ∨ (S a ∧ S b ∧ e a b = some (i, false) ∧ e' a b = some (i + 1, false))) ∧ (∀ a b, S a → (a < x ∨ (a = x ∧ b < y)) → e' a b ≠ some (i, false))
def rs_Z (e e' : gl_E) (i : Nat) (S : Nat → Prop) : Prop := ∀ a b, (e' a b = e a b ∧ ¬ (S a ∧ e a b = some (i, true))) ∨ (S a ∧ e a b = some (i, true) ∧ e' a b = some (i + 1, true))
def rs_Y (e e' : gl_E) (i : Nat) (S : Nat → Prop) : Prop := ∀ a b, e' a b = e a b ∨ (S a ∧ S b ∧ e a b = some (i, false) ∧ e' a b = some (i + 1, false))
theorem rs_ZY {e e1 e2 : gl_E} {i : Nat} {S : Nat → Prop} (h1 : rs_Z e e1 i S) (h2 : rs_Y e1 e2 i S) : gl_z e e2 i S := by
  intro a b
  rcases h1 a b with ⟨z1, z2⟩ | ⟨z1, z2, z3⟩
  · rcases h2 a b with y | ⟨y1, y2, y3, y4⟩
    · exact Or.inl ⟨y.trans z1, z2⟩
    · exact Or.inr (Or.inr ⟨y1, y2, z1.symm.trans y3, y4⟩)
  · rcases h2 a b with y | ⟨y1, y2, y3, y4⟩
    · exact Or.inr (Or.inl ⟨z1, z2, y.trans z3⟩)
    · exact absurd (gl_inj z3 y3).2 (by decide)
section
variable {e e' : gl_E} {S : Nat → Prop} {i x y : Nat}
theorem rs_I0 (ho : gl_ok e) : rs_I e e S i 0 0 := ⟨ho, fun _ _ => Or.inl rfl, fun a b _ _ z => by omega⟩
theorem rs_skip (h : rs_I e e' S i x y) (q : e' x y ≠ some (i, true)) : rs_I e e' S i x (y + 1) := by
  refine ⟨h.1, h.2.1, fun a b hab sa z => ?_⟩
  by_cases w : a = x ∧ b = y
  · rw [w.1, w.2]
    exact q
  · exact h.2.2 a b hab sa (by omega)
theorem rs_next (h : rs_I e e' S i x 12) : rs_I e e' S i (x + 1) 0 := by
  refine ⟨h.1, h.2.1, fun a b hab sa z q => ?_⟩
  have hb := h.1.2 a b i true q
  exact h.2.2 a b hab sa (by omega) q
theorem rs_out (h : rs_I e e' S i x 0) (hx : ¬ S x) : rs_I e e' S i (x + 1) 0 := by
  refine ⟨h.1, h.2.1, fun a b hab sa z => ?_⟩
  by_cases w : a = x
  · rw [w] at sa
    exact absurd sa hx
  · exact h.2.2 a b hab sa (by omega)
theorem rs_in (h : rs_I e e' S i x 0) : rs_I e e' S i x (x + 1) := ⟨h.1, h.2.1, fun a b hab sa z => h.2.2 a b hab sa (by omega)⟩
theorem rs_lift (ho : gl_ok e) (h : rs_I e e' S i x y) (sx : S x) (q : e' x y = some (i, true)) (hS : ∀ a b, S a → e a b = some (i, true) → S b) (hb : ∀ a b, S a → S b → a ≠ b → a < 12 → b < 12 → i + 1 < 3) : rs_I e (gl_s e' x y (some (i + 1, true))) S i x (y + 1) := by
  obtain ⟨h1, h2, h3⟩ := h
  obtain ⟨hx, hy, hxy, _⟩ := h1.2 x y i true q
  have q0 : e x y = some (i, true) := by
    rcases h2 x y with z | ⟨_, _, _, z⟩
    · exact z.symm.trans q
    · have := (gl_inj z q).1
      omega
  have sy : S y := hS x y sx q0
  refine ⟨gl_oki h1 hx hy hxy (hb x y sx sy hxy hx hy), fun a b => ?_, fun a b hab sa z => ?_⟩
  · by_cases w : gr_uv x y a b
    · rw [gl_s1 w]
      rcases w with ⟨w1, w2⟩ | ⟨w1, w2⟩
      · rw [w1, w2]
        exact Or.inr ⟨sx, sy, q0, rfl⟩
      · rw [w1, w2]
        exact Or.inr ⟨sy, sx, (ho.1 y x).trans q0, rfl⟩
    · rw [gl_s0 w]
      exact h2 a b
  · by_cases w : gr_uv x y a b
    · rw [gl_s1 w]
      intro k
      have := (gl_inj (rfl : some (i + 1, true) = some (i + 1, true)) k).1
      omega
    · rw [gl_s0 w]
      have w1 : ¬ (a = x ∧ b = y) := fun k => w (Or.inl k)
      exact h3 a b hab sa (by omega)
theorem rs_fin (ho : gl_ok e) (h : rs_I e e' S i 12 0) (hS : ∀ a b, S a → e a b = some (i, true) → S b) : rs_Z e e' i S := by
  obtain ⟨h1, h2, h3⟩ := h
  intro a b
  rcases h2 a b with z | ⟨sa, _, q, z⟩
  · refine Or.inl ⟨z, fun ⟨sa, q⟩ => ?_⟩
    obtain ⟨ha, hb, hab, _⟩ := ho.2 a b i true q
    have q' := z.trans q
    rcases Nat.lt_or_ge a b with k | k
    · exact h3 a b k sa (by omega) q'
    · exact h3 b a (by omega) (hS a b sa q) (by omega) ((h1.1 b a).trans q')
  · exact Or.inr ⟨sa, q, z⟩
/-! ===== the search ===== -/
theorem rs_K0 (ho : gl_ok e) : rs_K e e S i 0 0 := ⟨ho, fun _ _ => Or.inl rfl, fun a b _ z => by omega⟩
theorem rs_kskip (h : rs_K e e' S i x y) (q : e' x y ≠ some (i, false)) : rs_K e e' S i x (y + 1) := by
  refine ⟨h.1, h.2.1, fun a b sa z => ?_⟩
  by_cases w : a = x ∧ b = y
  · rw [w.1, w.2]
    exact q
  · exact h.2.2 a b sa (by omega)
theorem rs_knext (h : rs_K e e' S i x 12) : rs_K e e' S i (x + 1) 0 := by
  refine ⟨h.1, h.2.1, fun a b sa z q => ?_⟩
  have hb := h.1.2 a b i false q
  exact h.2.2 a b sa (by omega) q
theorem rs_kout (h : rs_K e e' S i x 0) (hx : ¬ S x) : rs_K e e' S i (x + 1) 0 := by
  refine ⟨h.1, h.2.1, fun a b sa z => ?_⟩
  by_cases w : a = x
  · rw [w] at sa
    exact absurd sa hx
  · exact h.2.2 a b sa (by omega)
theorem rs_klift (ho : gl_ok e) (h : rs_K e e' S i x y) (sx : S x) (sy : S y) (q : e' x y = some (i, false)) (hb : ∀ a b, S a → S b → a ≠ b → a < 12 → b < 12 → i + 1 < 3) : rs_K e (gl_s e' x y (some (i + 1, false))) S i x (y + 1) := by
  obtain ⟨h1, h2, h3⟩ := h
  obtain ⟨hx, hy, hxy, _⟩ := h1.2 x y i false q
  have q0 : e x y = some (i, false) := by
    rcases h2 x y with z | ⟨_, _, _, z⟩
    · exact z.symm.trans q
    · have := (gl_inj z q).1
      omega
  refine ⟨gl_oki h1 hx hy hxy (hb x y sx sy hxy hx hy), fun a b => ?_, fun a b sa z => ?_⟩
  · by_cases w : gr_uv x y a b
    · rw [gl_s1 w]
      rcases w with ⟨w1, w2⟩ | ⟨w1, w2⟩
      · rw [w1, w2]
        exact Or.inr ⟨sx, sy, q0, rfl⟩
      · rw [w1, w2]
        exact Or.inr ⟨sy, sx, (ho.1 y x).trans q0, rfl⟩
    · rw [gl_s0 w]
      exact h2 a b
  · by_cases w : gr_uv x y a b
    · rw [gl_s1 w]
      intro k
      have := (gl_inj (rfl : some (i + 1, false) = some (i + 1, false)) k).1
      omega
    · rw [gl_s0 w]
      have w1 : ¬ (a = x ∧ b = y) := fun k => w (Or.inl k)
      exact h3 a b sa (by omega)
end
section
variable {ec pc : Int32} {lv it tn on : Nat → Int32} {e : gl_E} {S : Nat → Prop} {m : Int32} {i : Nat}
theorem xw_raise {post : SX → Prop} (ho : gl_ok e) (hR : xr_P lv it tn on e) (hm : bm_k m S) (hi : i < 3) (hS : ∀ a b, S a → e a b = some (i, true) → S b) (hb : ∀ a b, S a → S b → a ≠ b → a < 12 → b < 12 → i + 1 < 3)
    (h : ∀ e' lv' it' tn' on', gl_ok e' → xr_P lv' it' tn' on' e' → rs_Z e e' i S → post (ec, pc, lv', it', tn', on')) : wpX_raiseTree post (ec, pc, lv, it, tn, on) m (nI i) := by
  unfold wpX_raiseTree
  dsimp only
  refine loop_0 (fun n x (s : rs_T) => wX_raiseTree_2 post m (nI i) n (nI x) ec pc s.1 s.2.1 s.2.2.1 s.2.2.2) (fun x s => ∃ e', xr_P s.1 s.2.1 s.2.2.1 s.2.2.2 e' ∧ rs_I e e' S i x 0) 12 (lv, it, tn, on) ⟨e, hR, rs_I0 ho⟩ ?_ ?_
  · rintro n ⟨lv1, it1, tn1, on1⟩ ⟨e', hR', hI⟩
    exact br_t bm_le (h e' lv1 it1 tn1 on1 hI.1 hR' (rs_fin ho hI hS))
  · rintro n x ⟨lv1, it1, tn1, on1⟩ hx ⟨e', hR', hI⟩ hk
    have hR1 : xr_P lv1 it1 tn1 on1 e' := hR'
    refine br_f (bm_ge hx) ?_
    by_cases sx : S x
    · refine br_f (fun z => (bm_t0 hm (by omega)).mp z sx) (nm_r (nI_1 x) ?_)
      refine pk_loop (fun n' y (s : rs_T) => wX_raiseTree_24 post (wX_raiseTree_2 post m (nI i) n) m (nI i) (nI x) n' (nI y) ec pc s.1 s.2.1 s.2.2.1 s.2.2.2) (fun y s => x < y ∧ ∃ e', xr_P s.1 s.2.1 s.2.2.1 s.2.2.2 e' ∧ rs_I e e' S i x y) 12 (x + 1) (lv1, it1, tn1, on1) (by omega) ⟨by omega, e', hR1, rs_in hI⟩ ?_ ?_
      · rintro n' ⟨lv2, it2, tn2, on2⟩ ⟨_, e2, hR2, hI2⟩
        exact br_t bm_le (nm_r (nI_1 x) (hk (lv2, it2, tn2, on2) ⟨e2, hR2, rs_next hI2⟩))
      · rintro n' y ⟨lv2, it2, tn2, on2⟩ hy ⟨hxy, e2, hR2', hI2⟩ hk2
        have hR2 : xr_P lv2 it2 tn2 on2 e2 := hR2'
        refine br_f (bm_ge hy) (And.intro (bm_i4 (by omega) hx) ?_)
        dsimp only
        rw [bm_ic (by omega) hx]
        have hw := hR2.2.2.1 i x (by omega) hx
        by_cases q : e2 x y = some (i, true)
        · refine br_f (fun z => (bm_t0 hw (by omega)).mp z q) ?_
          refine xw_lift1 hI2.1 hR2 q ?_
          intro lv3 it3 tn3 on3 hR3
          exact nm_r (nI_1 y) (hk2 (lv3, it3, tn3, on3) ⟨by omega, _, hR3, rs_lift ho hI2 sx q hS hb⟩)
        · exact br_t ((bm_t0 hw (by omega)).mpr q) (nm_r (nI_1 y) (hk2 (lv2, it2, tn2, on2) ⟨by omega, e2, hR2, rs_skip hI2 q⟩))
    · exact br_t ((bm_t0 hm (by omega)).mpr sx) (nm_r (nI_1 x) (hk (lv1, it1, tn1, on1) ⟨e', hR1, rs_out hI sx⟩))
theorem xw_search {post : Int32 → SX → Prop} (ho : gl_ok e) (hR : xr_P lv it tn on e) (hm : bm_k m S) (hi : i < 3) (hb : ∀ a b, S a → S b → a ≠ b → a < 12 → b < 12 → i + 1 < 3)
    (h0 : ∀ e' lv' it' tn' on', gl_ok e' → xr_P lv' it' tn' on' e' → rs_Y e e' i S → (∀ a b, S a → e' a b ≠ some (i, false)) → post 0 (ec, pc, lv', it', tn', on'))
    (h1 : ∀ e' x y lv' it' tn' on', gl_ok e' → rs_Y e e' i S → e' x y = some (i, false) → S x → ¬ S y → xr_P lv' it' tn' on' (gl_s e' x y (some (i, true))) → post 1 (ec, pc, lv', it', tn', on')) : wpX_searchOut post (ec, pc, lv, it, tn, on) m (nI i) := by
  unfold wpX_searchOut
  dsimp only
  refine loop_0 (fun n x (s : rs_T) => wX_searchOut_2 post m (nI i) n (nI x) ec pc s.1 s.2.1 s.2.2.1 s.2.2.2) (fun x s => ∃ e', xr_P s.1 s.2.1 s.2.2.1 s.2.2.2 e' ∧ rs_K e e' S i x 0) 12 (lv, it, tn, on) ⟨e, hR, rs_K0 ho⟩ ?_ ?_
  · rintro n ⟨lv1, it1, tn1, on1⟩ ⟨e', hR', hI⟩
    refine br_t bm_le (h0 e' lv1 it1 tn1 on1 hI.1 hR' hI.2.1 ?_)
    intro a b sa q
    have := hI.1.2 a b i false q
    exact hI.2.2 a b sa (by omega) q
  · rintro n x ⟨lv1, it1, tn1, on1⟩ hx ⟨e', hR', hI⟩ hk
    have hR1 : xr_P lv1 it1 tn1 on1 e' := hR'
    refine br_f (bm_ge hx) ?_
    by_cases sx : S x
    · refine br_f (fun z => (bm_t0 hm (by omega)).mp z sx) ?_
      refine loop_0 (fun n' y (s : rs_T) => wX_searchOut_22 post (wX_searchOut_2 post m (nI i) n) m (nI i) (nI x) n' (nI y) ec pc s.1 s.2.1 s.2.2.1 s.2.2.2) (fun y s => ∃ e', xr_P s.1 s.2.1 s.2.2.1 s.2.2.2 e' ∧ rs_K e e' S i x y) 12 (lv1, it1, tn1, on1) ⟨e', hR1, hI⟩ ?_ ?_
      · rintro n' ⟨lv2, it2, tn2, on2⟩ ⟨e2, hR2, hI2⟩
        exact br_t bm_le (nm_r (nI_1 x) (hk (lv2, it2, tn2, on2) ⟨e2, hR2, rs_knext hI2⟩))
      · rintro n' y ⟨lv2, it2, tn2, on2⟩ hy ⟨e2, hR2', hI2⟩ hk2
        have hR2 : xr_P lv2 it2 tn2 on2 e2 := hR2'
        refine br_f (bm_ge hy) (And.intro (bm_i4 (by omega) hx) ?_)
        dsimp only
        rw [bm_ic (by omega) hx]
        have hw := hR2.2.2.2 i x (by omega) hx
        by_cases q : e2 x y = some (i, false)
        · refine br_f (fun z => (bm_t0 hw (by omega)).mp z q) ?_
          by_cases sy : S y
          · refine br_f (fun z => (bm_t0 hm (by omega)).mp z sy) ?_
            refine xw_lift0 hI2.1 hR2 q ?_
            intro lv3 it3 tn3 on3 hR3
            exact nm_r (nI_1 y) (hk2 (lv3, it3, tn3, on3) ⟨_, hR3, rs_klift ho hI2 sx sy q hb⟩)
          · refine br_t ((bm_t0 hm (by omega)).mpr sy) ?_
            obtain ⟨_, _, hxy, _⟩ := hI2.1.2 x y i false q
            refine xw_unplace hI2.1 hR2 q ?_
            intro lv3 tn3 on3 hR3
            refine xw_place1 (gl_okn hI2.1 hx hy hxy) hR3 hx hy hxy (by omega) (gl_s1 (gr_uv1 x y)) ?_
            intro lv4 it4 tn4 on4 hR4
            rw [gl_ss] at hR4
            exact h1 e2 x y lv4 it4 tn4 on4 hI2.1 hI2.2.1 q sx sy hR4
        · exact br_t ((bm_t0 hw (by omega)).mpr q) (nm_r (nI_1 y) (hk2 (lv2, it2, tn2, on2) ⟨e2, hR2, rs_kskip hI2 q⟩))
    · exact br_t ((bm_t0 hm (by omega)).mpr sx) (nm_r (nI_1 x) (hk (lv1, it1, tn1, on1) ⟨e', hR1, rs_kout hI sx⟩))
end
/-! ===== replace: level by level ===== -/
def rs_x : Nat → Int32
  | 0 => -1
  | k + 1 => nI k
theorem rs_xm (k : Nat) : nI k + (-1) = rs_x k := by
  cases k with
  | zero => decide
  | succ k => exact pk_m1 k
theorem gl_dsame {e : gl_E} {x y : Nat} {c d : Nat × Bool} (ho : gl_ok e) (q : e x y = some d) : gl_d (gl_s e x y (some c)) = gl_d e := by
  rw [gl_dp]
  have q1 : gl_d e x y := fun z => by rw [q] at z; cases z
  have q2 : gl_d e y x := (gl_dok ho).1 x y q1
  funext a b
  refine propext ⟨?_, Or.inl⟩
  rintro (h | ⟨h1, h2⟩ | ⟨h1, h2⟩)
  · exact h
  · rw [h1, h2]
    exact q1
  · rw [h1, h2]
    exact q2
section
variable {ec pc : Int32} {u v : Nat}
theorem xw_rep56 {post : Int32 → SX → Prop} {J3 : Int32 → Int32 → Int32 → (Nat → Int32) → (Nat → Int32) → (Nat → Int32) → (Nat → Int32) → Prop} {lv it tn on : Nat → Int32} {e : gl_E} {m : Int32} {k p q : Nat} (hJ : gl_J e (k + 1) u v) (hn : ¬ gr_R (gl_t e 0) u v) (hR : xr_P lv it tn on e) (hk : k < 3) (hpq : gr_uv u v p q) (hm : bm_k m (gr_R (gl_t e k) p)) (hc : gr_c (gr_R (gl_t e k) p) 12 ≤ gr_c (gr_R (gl_t e k) q) 12)
    (h0 : ∀ e' lv' it' tn' on', gl_J e' k u v → ¬ gr_R (gl_t e' 0) u v → gl_d e' = gl_d e → xr_P lv' it' tn' on' e' → J3 (rs_x k) ec pc lv' it' tn' on')
    (h1 : ∀ e' lv' it' tn' on', gl_I e' → gr_R (gl_d e') u v → gl_d e' = gl_d e → xr_P lv' it' tn' on' e' → post 1 (ec, pc, lv', it', tn', on')) : wX_replace_56 post J3 (nI u) (nI v) (nI k) m ec pc lv it tn on := by
  have ho := hJ.1
  have hsm := gl_small hJ hn hk hpq hc
  have hb : ∀ a b, gr_R (gl_t e k) p a → gr_R (gl_t e k) p b → a ≠ b → a < 12 → b < 12 → k + 1 < 3 := fun a b sa sb hab ha hb => gl_room hsm hk ha hb hab sa sb
  unfold wX_replace_56
  refine xw_raise ho hR hm hk (fun a b sa qq => gr_step sa ⟨k, Nat.le_refl k, qq⟩) hb ?_
  intro e1 lv1 it1 tn1 on1 ho1 hR1 hz1
  refine xw_search ho1 hR1 hm hk hb ?_ ?_
  · intro e2 lv2 it2 tn2 on2 ho2 hR2 hy2 hno
    have hz := rs_ZY hz1 hy2
    have hJ2 := gl_keep hJ hsm hz ho2
    have ek := gl_zt hz (j := k) (by omega)
    have e0 := gl_zt hz (j := 0) (by omega)
    refine br_t rfl (nm_r (rs_xm k) (h0 e2 lv2 it2 tn2 on2 ?_ ?_ (gl_zd hz) hR2))
    · refine gl_fail hJ2 hpq ?_
      rw [ek]
      exact hno
    · rw [e0]
      exact hn
  · intro e2 x y lv2 it2 tn2 on2 ho2 hy2 hq sx sy hR2
    have hz := rs_ZY hz1 hy2
    have hJ2 := gl_keep hJ hsm hz ho2
    have ek := gl_zt hz (j := k) (by omega)
    have e0 := gl_zt hz (j := 0) (by omega)
    have hs := gl_succ (p := p) hJ2 (by rw [e0]; exact hn) hk hq (by rw [ek]; exact sx) (by rw [ek]; exact sy)
    exact br_f (by decide) (h1 _ lv2 it2 tn2 on2 hs.1 (gr_mono gl_td hs.2) ((gl_dsame ho2 hq).trans (gl_zd hz)) hR2)
theorem xw_rep3 {post : Int32 → SX → Prop} {D : Nat → Nat → Prop} (hu : u < 12) (hv : v < 12)
    (h0 : ∀ e' lv' it' tn' on', gl_I e' → ¬ gr_R (gl_d e') u v → gl_d e' = D → xr_P lv' it' tn' on' e' → post 0 (ec, pc, lv', it', tn', on'))
    (h1 : ∀ e' lv' it' tn' on', gl_I e' → gr_R (gl_d e') u v → gl_d e' = D → xr_P lv' it' tn' on' e' → post 1 (ec, pc, lv', it', tn', on')) :
    ∀ (k n : Nat) (lv it tn on : Nat → Int32) (e : gl_E), k ≤ 3 → k < n → gl_J e k u v → ¬ gr_R (gl_t e 0) u v → gl_d e = D → xr_P lv it tn on e → wX_replace_3 post (nI u) (nI v) n (rs_x k) ec pc lv it tn on := by
  intro k
  induction k with
  | zero =>
    intro n lv it tn on e _ hn hJ hr hD hR
    obtain ⟨n, rfl⟩ : ∃ n', n = n' + 1 := ⟨n - 1, by omega⟩
    have hI := gl_JI hJ
    exact br_t (by decide) (h0 e lv it tn on hI (fun z => hr ((gl_span hI u v).mp z)) hD hR)
  | succ k ih =>
    intro n lv it tn on e hk hn hJ hr hD hR
    obtain ⟨n, rfl⟩ : ∃ n', n = n' + 1 := ⟨n - 1, by omega⟩
    have go : ∀ (m : Int32) (p q : Nat), gr_uv u v p q → bm_k m (gr_R (gl_t e k) p) → gr_c (gr_R (gl_t e k) p) 12 ≤ gr_c (gr_R (gl_t e k) q) 12 → wX_replace_56 post (wX_replace_3 post (nI u) (nI v) n) (nI u) (nI v) (nI k) m ec pc lv it tn on := by
      intro m p q hpq hm hc
      refine xw_rep56 hJ hr hR (by omega) hpq hm hc ?_ ?_
      · intro e' lv' it' tn' on' hJ' hr' hd' hR'
        exact ih n lv' it' tn' on' e' (by omega) (by omega) hJ' hr' (hd'.trans hD) hR'
      · intro e' lv' it' tn' on' hI' hr' hd' hR'
        exact h1 e' lv' it' tn' on' hI' hr' (hd'.trans hD) hR'
    refine br_f (nI_pos (n := k) (by omega)) ?_
    refine xw_piece hJ.1 hR hu (by omega) ?_
    intro r2 hr2
    refine xw_piece hJ.1 hR hv (by omega) ?_
    intro r9 hr9
    refine xw_bits hr2 ?_
    refine xw_bits hr9 ?_
    have b1 := gr_cle (gr_R (gl_t e k) u) 12
    have b2 := gr_cle (gr_R (gl_t e k) v) 12
    refine pk_lt (gr_c (gr_R (gl_t e k) v) 12) (gr_c (gr_R (gl_t e k) u) 12) (fun z => ?_) (fun z => ?_)
    · exact go r9 v u (gr_uv2 u v) hr9 (by omega)
    · exact go r2 u v (gr_uv1 u v) hr2 (by omega)
end
end
section
/-! ===== the component's calls ===== -/
section
variable {ec pc : Int32} {lv it tn on : Nat → Int32} {e : gl_E}
theorem xw_cut {post : Int32 → SX → Prop} {a b : Nat} (hI : gl_I e) (hR : xr_P lv it tn on e) (ha : a < 12) (hb : b < 12) (hab : a ≠ b)
    (h0 : ¬ gl_d e a b → post 0 (ec, pc, lv, it, tn, on))
    (h1 : gl_d e a b → ∀ e' lv' it' tn' on', gl_I e' → gr_R (gl_d e') a b → gl_d e' = gr_mi (gl_d e) a b → xr_P lv' it' tn' on' e' → post 1 (ec - 1, pc, lv', it', tn', on'))
    (h2 : gl_d e a b → ∀ e' lv' it' tn' on', gl_I e' → ¬ gr_R (gl_d e') a b → gl_d e' = gr_mi (gl_d e) a b → xr_P lv' it' tn' on' e' → post 2 (ec - 1, pc + 1, lv', it', tn', on')) : wpX_cut post (ec, pc, lv, it, tn, on) (nI a) (nI b) := by
  have ho := hI.1
  unfold wpX_cut
  dsimp only
  refine xw_cp1 ha hb hab ?_
  refine br_f (by decide) ?_
  refine xw_isEdge ho hR ha hb hab (fun hd => ?_) (fun hd => ?_)
  · refine br_f (by decide) ?_
    rw [bm_ic ha hb]
    cases q : e a b with
    | none => exact absurd q hd
    | some c =>
      obtain ⟨f, t⟩ := c
      have hl := hR.2.1 a b f t q
      have hf := ho.2 a b f t q
      refine And.intro (bm_i1 ha hb) (nm_r hl.1 (And.intro (bm_i1 ha hb) (nm_r hl.2 ?_)))
      refine xw_unplace ho hR q ?_
      intro lv1 tn1 on1 hR1
      refine nm_e ?_
      cases t with
      | false =>
        have hc := gl_cut0 hI q
        exact br_t rfl (h1 hd _ lv1 it tn1 on1 hc.1 hc.2 gl_dm hR1)
      | true =>
        have hc := gl_start hI q
        refine br_f (by decide) ?_
        unfold wpX_replace
        dsimp only
        refine ⟨f + 2, ?_⟩
        refine xw_rep3 (D := gr_mi (gl_d e) a b) ha hb ?_ ?_ (f + 1) (f + 2) lv1 it tn1 on1 (gl_s e a b none) (by omega) (by omega) hc.1 hc.2 gl_dm hR1
        · intro e' lv' it' tn' on' hI' hr' hD' hR'
          exact br_t rfl (nm_e (h2 hd e' lv' it' tn' on' hI' hr' hD' hR'))
        · intro e' lv' it' tn' on' hI' hr' hD' hR'
          exact br_f (by decide) (h1 hd e' lv' it' tn' on' hI' hr' hD' hR')
  · exact br_t rfl (h0 hd)
theorem xw_cut0 {post : Int32 → SX → Prop} {p q : Int32} (h : cp_bad p q ∨ (∃ a, a < 12 ∧ p = nI a ∧ q = nI a)) (h0 : post (-1) (ec, pc, lv, it, tn, on)) : wpX_cut post (ec, pc, lv, it, tn, on) p q := by
  unfold wpX_cut
  dsimp only
  refine xw_cp0 h ?_
  exact br_t rfl h0
theorem xw_conn {post : Int32 → Prop} {p q : Nat} (hI : gl_I e) (hR : xr_P lv it tn on e) (hp : p < 12) (hq : q < 12) (h1 : gr_R (gl_d e) p q → post 1) (h0 : ¬ gr_R (gl_d e) p q → post 0) : wpX_connected post (ec, pc, lv, it, tn, on) (nI p) (nI q) := by
  unfold wpX_connected
  dsimp only
  refine xw_pt1 hp ?_
  refine br_f (by decide) ?_
  refine xw_pt1 hq ?_
  refine br_f (by decide) ?_
  refine xw_piece (i := 0) hI.1 hR hp (by decide) ?_
  intro r hr
  by_cases z : gr_R (gl_t e 0) p q
  · exact br_f (fun y => (bm_t0 hr (by omega)).mp y z) (h1 ((gl_span hI p q).mpr z))
  · exact br_t ((bm_t0 hr (by omega)).mpr z) (h0 (fun y => z ((gl_span hI p q).mp y)))
theorem xw_conn0 {post : Int32 → Prop} {p q : Int32} (h : cp_bad p q) (h0 : post 0) : wpX_connected post (ec, pc, lv, it, tn, on) p q := by
  unfold wpX_connected
  dsimp only
  rcases h with h | ⟨⟨a, ha, rfl⟩, h⟩
  · refine xw_pt0 h ?_
    exact br_t rfl h0
  · refine xw_pt1 ha ?_
    refine br_f (by decide) ?_
    refine xw_pt0 h ?_
    exact br_t rfl h0
theorem xw_part {post : Int32 → Prop} {p : Nat} (hI : gl_I e) (hR : xr_P lv it tn on e) (hp : p < 12) (h : ∀ r, bm_k r (gr_R (gl_d e) p) → post r) : wpX_part post (ec, pc, lv, it, tn, on) (nI p) := by
  unfold wpX_part
  dsimp only
  refine xw_pt1 hp ?_
  refine br_f (by decide) ?_
  refine xw_piece (i := 0) hI.1 hR hp (by decide) ?_
  intro r hr
  exact h r (bm_cg hr (fun y _ => (gl_span hI p y).symm))
theorem xw_part0 {post : Int32 → Prop} {p : Int32} (hp : p < 0 ∨ nI 12 ≤ p) (h : post (-1)) : wpX_part post (ec, pc, lv, it, tn, on) p := by
  unfold wpX_part
  dsimp only
  refine xw_pt0 hp ?_
  exact br_t rfl h
theorem xw_link {post : Int32 → SX → Prop} {a b E : Nat} (hI : gl_I e) (hR : xr_P lv it tn on e) (ha : a < 12) (hb : b < 12) (hab : a ≠ b) (hE : E ≤ 30)
    (h0 : gl_d e a b → post 0 (nI E, pc, lv, it, tn, on)) (h30 : ¬ gl_d e a b → E = 30 → post (-2) (nI E, pc, lv, it, tn, on))
    (h1 : ¬ gl_d e a b → E ≠ 30 → gr_R (gl_d e) a b → ∀ e' lv' it' tn' on', gl_I e' → gl_d e' = gr_pl (gl_d e) a b → xr_P lv' it' tn' on' e' → post 1 (nI (E + 1), pc, lv', it', tn', on'))
    (h2 : ¬ gl_d e a b → E ≠ 30 → ¬ gr_R (gl_d e) a b → ∀ e' lv' it' tn' on', gl_I e' → gl_d e' = gr_pl (gl_d e) a b → xr_P lv' it' tn' on' e' → post 2 (nI (E + 1), pc - 1, lv', it', tn', on')) : wpX_link post (nI E, pc, lv, it, tn, on) (nI a) (nI b) := by
  have ho := hI.1
  unfold wpX_link
  dsimp only
  refine xw_cp1 ha hb hab ?_
  refine br_f (by decide) ?_
  refine xw_isEdge ho hR ha hb hab (fun hd => ?_) (fun hd => ?_)
  · exact br_f (by decide) (h0 hd)
  · have q : e a b = none := Classical.byContradiction hd
    refine br_t rfl ?_
    refine pk_lt E 30 (fun z => ?_) (fun z => ?_)
    · refine xw_conn hI hR ha hb (fun r => ?_) (fun r => ?_)
      · refine br_f (by decide) ?_
        unfold wX_link_48
        refine nm_r (nI_1 E) ?_
        refine xw_place0 (f := 0) ho hR ha hb hab (by decide) q ?_
        intro lv' it' tn' on' hR'
        exact br_t rfl (h1 hd (by omega) r _ lv' it' tn' on' (gl_link0 hI ha hb hab q r) (gl_dp _) hR')
      · refine br_t rfl ?_
        unfold wX_link_48
        refine nm_r (nI_1 E) ?_
        refine xw_place1 (f := 0) ho hR ha hb hab (by decide) q ?_
        intro lv' it' tn' on' hR'
        exact br_f (by decide) (nm_e (h2 hd (by omega) r _ lv' it' tn' on' (gl_link1 hI ha hb hab q r) (gl_dp _) hR'))
    · exact h30 hd (by omega)
theorem xw_link0 {post : Int32 → SX → Prop} {p q : Int32} (h : cp_bad p q ∨ (∃ a, a < 12 ∧ p = nI a ∧ q = nI a)) (h0 : post (-1) (ec, pc, lv, it, tn, on)) : wpX_link post (ec, pc, lv, it, tn, on) p q := by
  unfold wpX_link
  dsimp only
  refine xw_cp0 h ?_
  exact br_t rfl h0
/-! ===== isBridge ===== -/
theorem xw_br57 {post : Int32 → SX → Prop} {u v f : Nat} {m : Int32} {S : Nat → Prop} (ho : gl_ok e) (hR : xr_P lv it tn on e) (hu : u < 12) (hv : v < 12) (huv : u ≠ v) (hf : f < 4) (q : e u v = none) (hm : bm_k m S)
    (h0 : (∃ x i y, S x ∧ i < 4 ∧ e x y = some (i, false) ∧ ¬ S y) → ∀ lv' it' tn' on', xr_P lv' it' tn' on' (gl_s e u v (some (f, true))) → post 0 (ec, pc, lv', it', tn', on'))
    (h1 : ¬ (∃ x i y, S x ∧ i < 4 ∧ e x y = some (i, false) ∧ ¬ S y) → ∀ lv' it' tn' on', xr_P lv' it' tn' on' (gl_s e u v (some (f, true))) → post 1 (ec, pc, lv', it', tn', on')) : ∃ n, wX_isBridge_57 post (nI u) (nI v) (nI f) m ec pc lv it tn on n 0 0 := by
  have r4 := hR.2.2.2
  refine loop_0 (fun n x s => wX_isBridge_57 post (nI u) (nI v) (nI f) m ec pc lv it tn on n s (nI x)) (fun x s => s = nI (gr_b (∃ z i y, z < x ∧ S z ∧ i < 4 ∧ e z y = some (i, false) ∧ ¬ S y))) 12 0 ?_ ?_ ?_
  · show (0 : Int32) = nI (gr_b (∃ z i y, z < 0 ∧ S z ∧ i < 4 ∧ e z y = some (i, false) ∧ ¬ S y))
    rw [gr_b0 (by rintro ⟨z, i, y, hz, _⟩; omega)]
    rfl
  · rintro n s rfl
    refine br_t bm_le ?_
    refine xw_place1 ho hR hu hv huv hf q ?_
    intro lv' it' tn' on' hR'
    by_cases w : ∃ x i y, S x ∧ i < 4 ∧ e x y = some (i, false) ∧ ¬ S y
    · have w' : ∃ z i y, z < 12 ∧ S z ∧ i < 4 ∧ e z y = some (i, false) ∧ ¬ S y := by
        obtain ⟨x, i, y, h1, h2, h3, h4⟩ := w
        exact ⟨x, i, y, (ho.2 x y i false h3).1, h1, h2, h3, h4⟩
      show (nI (gr_b _) = 0 → _) ∧ (¬ nI (gr_b _) = 0 → _)
      rw [gr_b1 w']
      exact br_f (by decide) (h0 w lv' it' tn' on' hR')
    · have w' : ¬ ∃ z i y, z < 12 ∧ S z ∧ i < 4 ∧ e z y = some (i, false) ∧ ¬ S y := by
        rintro ⟨x, i, y, _, h1, h2, h3, h4⟩
        exact w ⟨x, i, y, h1, h2, h3, h4⟩
      show (nI (gr_b _) = 0 → _) ∧ (¬ nI (gr_b _) = 0 → _)
      rw [gr_b0 w']
      exact br_t rfl (h1 w lv' it' tn' on' hR')
  · rintro n x s hx rfl hk
    refine br_f (bm_ge hx) ?_
    by_cases sx : S x
    · refine br_f (fun z => (bm_t0 hm (by omega)).mp z sx) ?_
      refine loop_0 (fun n' j s => wX_isBridge_80 post (wX_isBridge_57 post (nI u) (nI v) (nI f) m ec pc lv it tn on n) (nI u) (nI v) (nI f) m (nI x) ec pc lv it tn on n' s (nI j)) (fun j s => s = nI (gr_b ((∃ z i y, z < x ∧ S z ∧ i < 4 ∧ e z y = some (i, false) ∧ ¬ S y) ∨ (∃ i y, i < j ∧ e x y = some (i, false) ∧ ¬ S y)))) 4 _ ?_ ?_ ?_
      · refine congrArg nI (gr_be ⟨Or.inl, fun k => k.resolve_right ?_⟩)
        rintro ⟨i, y, hi, _⟩
        omega
      · rintro n' s rfl
        refine br_t (by decide) (nm_r (nI_1 x) (hk _ (congrArg nI (gr_be ⟨?_, ?_⟩))))
        · rintro (⟨z, i, y, h1, h2⟩ | ⟨i, y, h1, h2⟩)
          · exact ⟨z, i, y, by omega, h2⟩
          · exact ⟨x, i, y, by omega, sx, h1, h2⟩
        · rintro ⟨z, i, y, h1, h2, h3, h4⟩
          by_cases w : z = x
          · rw [w] at h4
            exact Or.inr ⟨i, y, h3, h4⟩
          · exact Or.inl ⟨z, i, y, by omega, h2, h3, h4⟩
      · rintro n' j s hj rfl hk2
        refine br_f (nI_nlt (a := 3) (b := j) (by omega) (by decide)) (And.intro (bm_i4 hj hx) ?_)
        rw [bm_ic (by omega) hx]
        have hz := bm_z (bm_an (r4 j x hj hx) hm)
        by_cases w : ∃ y, e x y = some (j, false) ∧ ¬ S y
        · obtain ⟨y, w1, w2⟩ := w
          have hy := (ho.2 x y j false w1).2.1
          refine br_f (fun k => hz.mp k y (by omega) ⟨w1, w2⟩) (nm_r (nI_1 j) (hk2 _ ?_))
          rw [gr_b1 (Or.inr ⟨j, y, by omega, w1, w2⟩)]
          rfl
        · refine br_t (hz.mpr (fun y _ k => w ⟨y, k⟩)) (nm_r (nI_1 j) (hk2 _ (congrArg nI (gr_be ⟨?_, ?_⟩))))
          · rintro (k | ⟨i, y, h1, h2⟩)
            · exact Or.inl k
            · exact Or.inr ⟨i, y, by omega, h2⟩
          · rintro (k | ⟨i, y, h1, h2⟩)
            · exact Or.inl k
            · by_cases z : i = j
              · rw [z] at h2
                exact absurd ⟨y, h2⟩ w
              · exact Or.inr ⟨i, y, by omega, h2⟩
    · refine br_t ((bm_t0 hm (by omega)).mpr sx) (nm_r (nI_1 x) (hk _ (congrArg nI (gr_be ⟨?_, ?_⟩))))
      · rintro ⟨z, i, y, h1, h2⟩
        exact ⟨z, i, y, by omega, h2⟩
      · rintro ⟨z, i, y, h1, h2, h3⟩
        by_cases w : z = x
        · rw [w] at h2
          exact absurd h2 sx
        · exact ⟨z, i, y, by omega, h2, h3⟩
theorem xw_bridge {post : Int32 → SX → Prop} {a b : Nat} (hI : gl_I e) (hR : xr_P lv it tn on e) (hd : gl_d e a b)
    (h0 : gr_R (gr_mi (gl_d e) a b) a b → ∀ lv' it' tn' on', xr_P lv' it' tn' on' e → post 0 (ec, pc, lv', it', tn', on'))
    (h1 : ¬ gr_R (gr_mi (gl_d e) a b) a b → ∀ lv' it' tn' on', xr_P lv' it' tn' on' e → post 1 (ec, pc, lv', it', tn', on')) : wpX_isBridge post (ec, pc, lv, it, tn, on) (nI a) (nI b) := by
  have ho := hI.1
  obtain ⟨ha, hb, hab⟩ := (gl_dok ho).2 a b hd
  unfold wpX_isBridge
  dsimp only
  refine xw_isEdge ho hR ha hb hab (fun _ => ?_) (fun z => absurd hd z)
  refine br_f (by decide) (And.intro (bm_i1 ha hb) ?_)
  rw [bm_ic ha hb]
  cases q : e a b with
  | none => exact absurd q hd
  | some c =>
    obtain ⟨f, t⟩ := c
    have hl := hR.2.1 a b f t q
    have hf := ho.2 a b f t q
    cases t with
    | false =>
      rw [hl.2]
      refine br_t rfl (h0 ?_ lv it tn on hR)
      have hc := (gl_cut0 hI q).2
      rw [gl_dm] at hc
      exact hc
    | true =>
      have hled := gl_led hI q
      rw [gl_dm] at hled
      have back : gl_s (gl_s e a b none) a b (some (f, true)) = e := (gl_ss none).trans (gl_sid ho.1 q)
      rw [hl.2]
      refine br_f (by decide) (And.intro (bm_i1 ha hb) (nm_r hl.1 ?_))
      refine xw_unplace ho hR q ?_
      intro lv1 tn1 on1 hR1
      have ho1 := gl_okn ho ha hb hab
      refine xw_piece (i := 0) ho1 hR1 ha (by decide) ?_
      intro r hr
      refine xw_br57 ho1 hR1 ha hb hab (by omega) (gl_s1 (gr_uv1 a b)) hr ?_ ?_
      · intro w lv' it' tn' on' hR'
        rw [back] at hR'
        exact h0 (hled.mpr w) lv' it' tn' on' hR'
      · intro w lv' it' tn' on' hR'
        rw [back] at hR'
        exact h1 (fun z => w (hled.mp z)) lv' it' tn' on' hR'
theorem xw_bridge0 {post : Int32 → SX → Prop} {a b : Nat} (ho : gl_ok e) (hR : xr_P lv it tn on e) (ha : a < 12) (hb : b < 12) (hab : a ≠ b) (hd : ¬ gl_d e a b) (h0 : post 0 (ec, pc, lv, it, tn, on)) : wpX_isBridge post (ec, pc, lv, it, tn, on) (nI a) (nI b) := by
  unfold wpX_isBridge
  dsimp only
  refine xw_isEdge ho hR ha hb hab (fun z => absurd z hd) (fun _ => ?_)
  exact br_t rfl h0
theorem xw_bridge00 {post : Int32 → SX → Prop} {p q : Int32} (h : cp_bad p q ∨ (∃ a, a < 12 ∧ p = nI a ∧ q = nI a)) (h0 : post 0 (ec, pc, lv, it, tn, on)) : wpX_isBridge post (ec, pc, lv, it, tn, on) p q := by
  unfold wpX_isBridge
  dsimp only
  refine xw_isEdge0 h ?_
  exact br_t rfl h0
/-! ===== isolate, greatest ===== -/
def xw_S (A : Nat → Nat → Prop) (s : SX) : Prop := ∃ e E, gl_I e ∧ xr_P s.2.2.1 s.2.2.2.1 s.2.2.2.2.1 s.2.2.2.2.2 e ∧ gl_d e = A ∧ s.1 = nI E ∧ gr_e A = 2 * E ∧ E ≤ 30 ∧ s.2.1 = nI (gr_k A)
/-- a cut in a state that stands for A: a state that stands for A less the edge -/
theorem xw_cutS {post : Int32 → SX → Prop} {A : Nat → Nat → Prop} {s : SX} {a b : Nat} (hS : xw_S A s) (ha : a < 12) (hb : b < 12) (hab : a ≠ b) (h0 : ¬ A a b → post 0 s)
    (h1 : A a b → gr_R (gr_mi A a b) a b → ∀ s', xw_S (gr_mi A a b) s' → post 1 s') (h2 : A a b → ¬ gr_R (gr_mi A a b) a b → ∀ s', xw_S (gr_mi A a b) s' → post 2 s') : wpX_cut post s (nI a) (nI b) := by
  obtain ⟨ec, pc, lv, it, tn, on⟩ := s
  obtain ⟨e, E, hI, hR, rfl, he, hE, hE30, hk⟩ := hS
  have he' : ec = nI E := he
  have hk' : pc = nI (gr_k (gl_d e)) := hk
  subst he' hk'
  have hA := gl_dok hI.1
  refine xw_cut hI hR ha hb hab h0 ?_ ?_
  · intro hd e' lv' it' tn' on' hI' hr' hD' hR'
    have hem := gr_em hA hd
    rw [hD'] at hr'
    refine h1 hd hr' _ ⟨e', E - 1, hI', hR', hD', ?_, by omega, by omega, ?_⟩
    · exact pk_sub (a := E) (b := 1) (by omega)
    · exact congrArg nI (gr_ks hA hd hr').symm
  · intro hd e' lv' it' tn' on' hI' hr' hD' hR'
    have hem := gr_em hA hd
    rw [hD'] at hr'
    refine h2 hd hr' _ ⟨e', E - 1, hI', hR', hD', ?_, by omega, by omega, ?_⟩
    · exact pk_sub (a := E) (b := 1) (by omega)
    · exact (nI_1 _).trans (congrArg nI (gr_km hA hd hr').symm)
theorem xw_isolate {post : Int32 → SX → Prop} {A : Nat → Nat → Prop} {u : Nat} (hA : gr_ok A) (hS : xw_S A (ec, pc, lv, it, tn, on)) (hu : u < 12) (h : ∀ s', xw_S (gr_i A u 12) s' → post (nI (gr_k (gr_i A u 12)) - nI (gr_k A)) s') : wpX_isolate post (ec, pc, lv, it, tn, on) (nI u) := by
  have hk0 : pc = nI (gr_k A) := by
    obtain ⟨e, E, _, _, _, _, _, _, hk⟩ := hS
    exact hk
  unfold wpX_isolate
  dsimp only
  refine xw_pt1 hu ?_
  refine br_f (by decide) ?_
  refine loop_0 (fun n x (s : SX) => wX_isolate_17 post (nI u) pc n (nI x) s.1 s.2.1 s.2.2.1 s.2.2.2.1 s.2.2.2.2.1 s.2.2.2.2.2) (fun x s => xw_S (gr_i A u x) s) 12 (ec, pc, lv, it, tn, on) ?_ ?_ ?_
  · show xw_S (gr_i A u 0) _
    rw [gr_i0]
    exact hS
  · rintro n ⟨ec1, pc1, lv1, it1, tn1, on1⟩ hs
    have hk1 : pc1 = nI (gr_k (gr_i A u 12)) := by
      obtain ⟨e, E, _, _, _, _, _, _, hk⟩ := hs
      exact hk
    have := h _ hs
    rw [← hk0, ← hk1] at this
    exact br_t bm_le this
  · rintro n x ⟨ec1, pc1, lv1, it1, tn1, on1⟩ hx hs hk
    have hs' := hs
    obtain ⟨e, E, hI, hR, hD, _⟩ := hs
    refine br_f (bm_ge hx) ?_
    have hR1 : xr_P lv1 it1 tn1 on1 e := hR
    by_cases z : u = x
    · refine xw_isEdge0 (Or.inr ⟨u, hu, rfl, by rw [z]⟩) ?_
      refine br_t rfl (nm_r (nI_1 x) ?_)
      refine hk (ec1, pc1, lv1, it1, tn1, on1) ?_
      rw [gr_is hA (fun k => ((gr_io hA).2 _ _ k).2.2 z)]
      exact hs'
    · refine xw_isEdge hI.1 hR1 hu hx z (fun hd => ?_) (fun hd => ?_)
      · refine br_f (by decide) ?_
        rw [hD] at hd
        refine xw_cutS hs' hu hx z (fun k => absurd hd k) ?_ ?_
        · rintro _ _ ⟨ec2, pc2, lv2, it2, tn2, on2⟩ hs2
          refine nm_r (nI_1 x) (hk (ec2, pc2, lv2, it2, tn2, on2) ?_)
          rw [gr_it]
          exact hs2
        · rintro _ _ ⟨ec2, pc2, lv2, it2, tn2, on2⟩ hs2
          refine nm_r (nI_1 x) (hk (ec2, pc2, lv2, it2, tn2, on2) ?_)
          rw [gr_it]
          exact hs2
      · rw [hD] at hd
        refine br_t rfl (nm_r (nI_1 x) (hk (ec1, pc1, lv1, it1, tn1, on1) ?_))
        rw [gr_is hA hd]
        exact hs'
theorem xw_isolate0 {post : Int32 → SX → Prop} {p : Int32} (hp : p < 0 ∨ nI 12 ≤ p) (h : post (-1) (ec, pc, lv, it, tn, on)) : wpX_isolate post (ec, pc, lv, it, tn, on) p := by
  unfold wpX_isolate
  dsimp only
  refine xw_pt0 hp ?_
  exact br_t rfl h
theorem xw_greatest {post : Int32 → Prop} (hI : gl_I e) (hR : xr_P lv it tn on e) (h : post (nI (gr_m (fun x => gr_c (gr_R (gl_d e) x) 12) 12))) : wpX_greatest post (ec, pc, lv, it, tn, on) := by
  have hA := gl_dok hI.1
  have bd : ∀ n, gr_m (fun x => gr_c (gr_R (gl_d e) x) 12) n ≤ 12 := fun n => gr_mle (fun x => gr_cle _ 12)
  unfold wpX_greatest
  dsimp only
  refine loop_0 (fun n x (s : Int32 × Int32) => wX_greatest_6 post ec pc lv it tn on n s.1 s.2 (nI x)) (fun x s => s.1 = nI (gr_m (fun x => gr_c (gr_R (gl_d e) x) 12) x) ∧ bm_k s.2 (fun y => ∃ z, z < x ∧ gr_R (gl_d e) z y)) 12 (0, 0) ?_ ?_ ?_
  · exact ⟨rfl, bm_cg bm_0 (fun y _ => ⟨fun z => z.elim, fun ⟨z, hz, _⟩ => absurd hz (Nat.not_lt_zero z)⟩)⟩
  · rintro n ⟨x1, x2⟩ ⟨h1, h2⟩
    have h1' : x1 = _ := h1
    refine br_t bm_le ?_
    show post x1
    rw [h1']
    exact h
  · rintro n x ⟨x1, x2⟩ hx ⟨h1, h2⟩ hk
    have h1' : x1 = nI (gr_m (fun x => gr_c (gr_R (gl_d e) x) 12) x) := h1
    have h2' : bm_k x2 (fun y => ∃ z, z < x ∧ gr_R (gl_d e) z y) := h2
    subst h1'
    refine br_f (bm_ge hx) ?_
    by_cases w : ∃ z, z < x ∧ gr_R (gl_d e) z x
    · obtain ⟨z, hz, r⟩ := w
      refine br_f (fun k => (bm_t0 h2' (by omega)).mp k ⟨z, hz, r⟩) (nm_r (nI_1 x) (hk (_, x2) ⟨?_, ?_⟩))
      · have g1 := gr_mge (fun x => gr_c (gr_R (gl_d e) x) 12) x z hz
        have g2 : gr_c (gr_R (gl_d e) x) 12 = gr_c (gr_R (gl_d e) z) 12 := gr_ce (fun y _ => ⟨gr_trans r, gr_trans (gr_sym hA.1 r)⟩)
        show nI _ = nI _
        rw [gr_ms, if_pos]
        show gr_c (gr_R (gl_d e) x) 12 ≤ _
        rw [g2]
        exact g1
      · refine bm_cg h2' (fun y _ => ⟨fun ⟨a, ha, ra⟩ => ⟨a, by omega, ra⟩, fun ⟨a, ha, ra⟩ => ?_⟩)
        by_cases k : a = x
        · rw [k] at ra
          exact ⟨z, hz, gr_trans r ra⟩
        · exact ⟨a, by omega, ra⟩
    · refine br_t ((bm_t0 h2' (by omega)).mpr w) ?_
      refine xw_piece (i := 0) hI.1 hR hx (by decide) ?_
      intro r hr
      have hr' : bm_k r (gr_R (gl_d e) x) := bm_cg hr (fun y _ => (gl_span hI x y).symm)
      refine xw_bits hr' ?_
      refine nm_e ?_
      have hs : bm_k (x2 ||| r) (fun y => ∃ z, z < x + 1 ∧ gr_R (gl_d e) z y) := by
        refine bm_cg (bm_or h2' hr') (fun y _ => ⟨?_, ?_⟩)
        · rintro (⟨a, ha, ra⟩ | ra)
          · exact ⟨a, by omega, ra⟩
          · exact ⟨x, by omega, ra⟩
        · rintro ⟨a, ha, ra⟩
          by_cases k : a = x
          · rw [k] at ra
            exact Or.inr ra
          · exact Or.inl ⟨a, by omega, ra⟩
      have b1 := bd x
      have b2 := gr_cle (gr_R (gl_d e) x) 12
      refine pk_le (gr_c (gr_R (gl_d e) x) 12) (gr_m (fun x => gr_c (gr_R (gl_d e) x) 12) x) (fun z => ?_) (fun z => ?_)
      · refine nm_r (nI_1 x) (hk (_, x2 ||| r) ⟨?_, hs⟩)
        show nI _ = nI _
        rw [gr_ms, if_pos z]
      · refine nm_r (nI_1 x) (hk (nI (gr_c (gr_R (gl_d e) x) 12), x2 ||| r) ⟨?_, hs⟩)
        show nI _ = nI _
        rw [gr_ms, if_neg (by omega)]
end
end
section
/-! ===== the relation: one graph A; the component's levels stand for it, the reference's sets are it ===== -/
def i_Rel (k : Nat) (u : SX) (v : SY) : Prop := ∃ A, xw_S A u ∧ yr_P v.1 A
theorem ii_el {P : SX → SY → Prop} {k : Nat} {u : SX} {v : SY} (h : ∀ e E lv it tn on nx kp, gl_I e → xr_P lv it tn on e → gr_e (gl_d e) = 2 * E → E ≤ 30 → yr_P nx (gl_d e) → P (nI E, nI (gr_k (gl_d e)), lv, it, tn, on) (nx, kp)) (I : i_Rel k u v) : P u v := by
  obtain ⟨ec, pc, lv, it, tn, on⟩ := u
  obtain ⟨nx, kp⟩ := v
  obtain ⟨A, ⟨e, E, hI, hR, rfl, he, hE, h30, hk⟩, hY⟩ := I
  have he' : ec = nI E := he
  have hk' : pc = nI (gr_k (gl_d e)) := hk
  subst he' hk'
  exact h e E lv it tn on nx kp hI hR hE h30 hY
theorem ii_S {e : gl_E} {E : Nat} {lv it tn on : Nat → Int32} {A : Nat → Nat → Prop} (hI : gl_I e) (hR : xr_P lv it tn on e) (hD : gl_d e = A) (hE : gr_e A = 2 * E) (h30 : E ≤ 30) : xw_S A (nI E, nI (gr_k A), lv, it, tn, on) := ⟨e, E, hI, hR, hD, rfl, hE, h30, rfl⟩
theorem ii_mk {e : gl_E} {k E : Nat} {lv it tn on nx kp : Nat → Int32} {A : Nat → Nat → Prop} (hI : gl_I e) (hR : xr_P lv it tn on e) (hD : gl_d e = A) (hE : gr_e A = 2 * E) (h30 : E ≤ 30) (hY : yr_P nx A) : i_Rel k (nI E, nI (gr_k A), lv, it, tn, on) (nx, kp) := ⟨A, ii_S hI hR hD hE h30, hY⟩
theorem i_up {k : Nat} {u : SX} {v : SY} (h : i_Rel k u v) : i_Rel (k + 3) u v := h
/-! ===== the start ===== -/
theorem ii_c1 (a n : Nat) : gr_c (fun x => x = a) n ≤ 1 := by
  by_cases h : a < n
  · have e := gr_c1 (P := fun _ => False) (Q := fun x => x = a) h rfl (fun z => z) (fun x _ hx => ⟨fun z => z.elim, fun z => absurd z hx⟩)
    rw [e, gr_cz (fun _ _ z => z)]
    exact Nat.le_refl 1
  · rw [gr_cz (fun x hx z => by omega)]
    exact Nat.zero_le 1
theorem ii_I0 : gl_I (fun _ _ => none) := by
  refine ⟨⟨fun _ _ => rfl, fun a b i t q => by cases q⟩, ?_, fun j a b q => (by cases q), ?_⟩
  · rintro a b ⟨j, _, q⟩
    cases q
  · intro j a hj
    have h1 : gr_c (gr_R (gl_t (fun _ _ => none) j) a) 12 ≤ 1 := by
      refine Nat.le_trans (gr_cm (Q := fun x => x = a) ?_) (ii_c1 a 12)
      intro x _ r
      refine gr_none ?_ r
      rintro c d ⟨k, _, q⟩
      cases q
    have h2 : 2 ^ j * gr_c (gr_R (gl_t (fun _ _ => none) j) a) 12 ≤ 2 ^ j * 1 := Nat.mul_le_mul_left _ h1
    have h3 : 2 ^ j ≤ 2 ^ 3 := Nat.pow_le_pow_right (by decide) (by omega)
    have h4 : (2 : Nat) ^ 3 = 8 := rfl
    omega
theorem ii_d0 : gl_d (fun _ _ => none) = fun _ _ => False := by
  funext a b
  exact propext ⟨fun h => h rfl, fun h => h.elim⟩
theorem ii_k0 : gr_k (fun _ _ => False) = 12 := gr_ca (fun x _ y hy r => by have := gr_none (fun _ _ z => z) r; omega)
theorem ii_e0 : gr_e (fun _ _ => False) = 0 := by
  have h3 : gr_e (fun _ _ => False) = gr_s (fun _ => 0) 12 := gr_se (fun x _ => gr_cz (fun y _ z => z))
  rw [h3]
  rfl
theorem i_vc0 : wpX_init (fun u => wpY_init (fun v => i_Rel 0 u v)) := by
  unfold wpX_init
  refine loop_0 (fun n x s => wX_init_46 (fun u => wpY_init (fun v => i_Rel 0 u v)) 0 12 n (nI x) s (fun _ => 0) (fun _ => 0) (fun _ => 0)) (fun x s => ∀ j, j < x → s j = -1) 144 (fun _ => 0) (fun j hj => absurd hj (Nat.not_lt_zero j)) ?_ ?_
  · intro n s hs
    refine br_t (by decide) ?_
    show i_Rel 0 (0, 12, s, fun _ => 0, fun _ => 0, fun _ => 0) (fun _ => 0, fun _ => 0)
    refine ⟨fun _ _ => False, ⟨fun _ _ => none, 0, ii_I0, ?_, ii_d0, rfl, ii_e0, by decide, ?_⟩, ?_⟩
    · refine ⟨fun x y hx hy _ => hs _ (by omega), fun x y i b q => (by cases q), fun i x _ _ => ?_, fun i x _ _ => ?_⟩
      · exact bm_cg bm_0 (fun y _ => ⟨fun z => z.elim, fun z => by cases z⟩)
      · exact bm_cg bm_0 (fun y _ => ⟨fun z => z.elim, fun z => by cases z⟩)
    · rw [ii_k0]
      rfl
    · intro x hx
      exact bm_0
  · intro n x s hx hs hk
    have hc : (nI x).toNatClampNeg = x := nI_clamp (by omega)
    refine br_f (nI_ge (b := 144) hx (by decide)) (And.intro (vp_in_nI hx (by decide)) ?_)
    rw [hc]
    refine nm_e (nm_r (nI_1 x) (hk _ ?_))
    intro j hj
    by_cases z : j = x
    · rw [z, pk_us]
      exact bm_nm
    · rw [pk_un z]
      exact hs j (by omega)
/-! ===== the calls ===== -/
theorem i_vc_link {k : Nat} {u : SX} {v : SY} (I : i_Rel k u v) (hk : k + 3 ≤ 1536) (v1 : Int32) (v2 : Int32) : wpX_link (fun r u' => wpY_link (fun r' v' => r' = r ∧ i_Rel (k + 3) u' v') v v1 v2) u v1 v2 := by
  refine ii_el (P := fun u v => wpX_link (fun r u' => wpY_link (fun r' v' => r' = r ∧ i_Rel (k + 3) u' v') v v1 v2) u v1 v2) ?_ I
  intro e E lv it tn on nx kp hI hR hE h30 hY
  have hA := gl_dok hI.1
  have he2 : gr_e (gl_d e) / 2 = E := by omega
  rcases cp_two v1 v2 with h | h | ⟨a, b, ha, hb, hab, rfl, rfl⟩
  · exact xw_link0 (Or.inl h) (yw_link0 (Or.inl h) ⟨rfl, ii_mk hI hR rfl hE h30 hY⟩)
  · exact xw_link0 (Or.inr h) (yw_link0 (Or.inr h) ⟨rfl, ii_mk hI hR rfl hE h30 hY⟩)
  · refine xw_link hI hR ha hb hab h30 ?_ ?_ ?_ ?_
    · intro hd
      exact yw_link hA hY ha hb hab (fun _ => ⟨rfl, ii_mk hI hR rfl hE h30 hY⟩) (fun z => absurd hd z) (fun z => absurd hd z) (fun z => absurd hd z)
    · intro hd hq
      exact yw_link hA hY ha hb hab (fun z => absurd z hd) (fun _ _ => ⟨rfl, ii_mk hI hR rfl hE h30 hY⟩) (fun _ z => absurd (he2.trans hq) z) (fun _ z => absurd (he2.trans hq) z)
    · intro hd hq r e' lv' it' tn' on' hI' hD' hR'
      refine yw_link hA hY ha hb hab (fun z => absurd z hd) (fun _ z => absurd (he2.symm.trans z) hq) (fun _ _ _ nx' hY' => ⟨rfl, ?_⟩) (fun _ _ z => absurd r z)
      have hk2 : gr_k (gl_d e) = gr_k (gr_pl (gl_d e) a b) := (gr_ke (gr_same hA.1 r)).symm
      have he3 := gr_ep ha hb hab hd (fun z => hd (hA.1 _ _ z))
      rw [hk2]
      exact ii_mk hI' hR' hD' (by omega) (by omega) hY'
    · intro hd hq r e' lv' it' tn' on' hI' hD' hR'
      refine yw_link hA hY ha hb hab (fun z => absurd z hd) (fun _ z => absurd (he2.symm.trans z) hq) (fun _ _ z => absurd z r) (fun _ _ _ nx' hY' => ⟨rfl, ?_⟩)
      have hk2 : gr_k (gl_d e) = gr_k (gr_pl (gl_d e) a b) + 1 := gr_kp hA.1 ha hb r
      have he3 := gr_ep ha hb hab hd (fun z => hd (hA.1 _ _ z))
      rw [hk2, nI_pred]
      exact ii_mk hI' hR' hD' (by omega) (by omega) hY'
theorem i_vc_cut {k : Nat} {u : SX} {v : SY} (I : i_Rel k u v) (hk : k + 3 ≤ 1536) (v1 : Int32) (v2 : Int32) : wpX_cut (fun r u' => wpY_cut (fun r' v' => r' = r ∧ i_Rel (k + 3) u' v') v v1 v2) u v1 v2 := by
  refine ii_el (P := fun u v => wpX_cut (fun r u' => wpY_cut (fun r' v' => r' = r ∧ i_Rel (k + 3) u' v') v v1 v2) u v1 v2) ?_ I
  intro e E lv it tn on nx kp hI hR hE h30 hY
  have hA := gl_dok hI.1
  rcases cp_two v1 v2 with h | h | ⟨a, b, ha, hb, hab, rfl, rfl⟩
  · exact xw_cut0 (Or.inl h) (yw_cut0 (Or.inl h) ⟨rfl, ii_mk hI hR rfl hE h30 hY⟩)
  · exact xw_cut0 (Or.inr h) (yw_cut0 (Or.inr h) ⟨rfl, ii_mk hI hR rfl hE h30 hY⟩)
  · refine xw_cutS (ii_S hI hR rfl hE h30) ha hb hab ?_ ?_ ?_
    · intro hd
      exact yw_cut hA hY ha hb hab (fun _ => ⟨rfl, ii_mk hI hR rfl hE h30 hY⟩) (fun z => absurd z hd) (fun z => absurd z hd)
    · intro hd r s' hs'
      exact yw_cut hA hY ha hb hab (fun z => absurd hd z) (fun _ _ nx' hY' => ⟨rfl, _, hs', hY'⟩) (fun _ z => absurd r z)
    · intro hd r s' hs'
      exact yw_cut hA hY ha hb hab (fun z => absurd hd z) (fun _ z => absurd z r) (fun _ _ nx' hY' => ⟨rfl, _, hs', hY'⟩)
theorem i_vc_connected {k : Nat} {u : SX} {v : SY} (I : i_Rel k u v) (hk : k + 3 ≤ 1536) (v1 : Int32) (v2 : Int32) : wpX_connected (fun r => wpY_connected (fun r' => r' = r ∧ i_Rel (k + 3) u v) v v1 v2) u v1 v2 := by
  refine ii_el (P := fun u v => wpX_connected (fun r => wpY_connected (fun r' => r' = r ∧ i_Rel (k + 3) u v) v v1 v2) u v1 v2) ?_ I
  intro e E lv it tn on nx kp hI hR hE h30 hY
  have hA := gl_dok hI.1
  have rel : i_Rel (k + 3) (nI E, nI (gr_k (gl_d e)), lv, it, tn, on) (nx, kp) := ii_mk hI hR rfl hE h30 hY
  rcases cp_two v1 v2 with h | ⟨a, ha, rfl, rfl⟩ | ⟨a, b, ha, hb, hab, rfl, rfl⟩
  · exact xw_conn0 h (yw_conn0 h ⟨rfl, rel⟩)
  · refine xw_conn hI hR ha ha (fun r => ?_) (fun r => ?_)
    · exact yw_conn hA hY ha ha (fun _ => ⟨rfl, rel⟩) (fun z => absurd r z)
    · exact yw_conn hA hY ha ha (fun z => absurd z r) (fun _ => ⟨rfl, rel⟩)
  · refine xw_conn hI hR ha hb (fun r => ?_) (fun r => ?_)
    · exact yw_conn hA hY ha hb (fun _ => ⟨rfl, rel⟩) (fun z => absurd r z)
    · exact yw_conn hA hY ha hb (fun z => absurd z r) (fun _ => ⟨rfl, rel⟩)
theorem i_vc_part {k : Nat} {u : SX} {v : SY} (I : i_Rel k u v) (hk : k + 3 ≤ 1536) (v1 : Int32) : wpX_part (fun r => wpY_part (fun r' => r' = r ∧ i_Rel (k + 3) u v) v v1) u v1 := by
  refine ii_el (P := fun u v => wpX_part (fun r => wpY_part (fun r' => r' = r ∧ i_Rel (k + 3) u v) v v1) u v1) ?_ I
  intro e E lv it tn on nx kp hI hR hE h30 hY
  have hA := gl_dok hI.1
  have rel : i_Rel (k + 3) (nI E, nI (gr_k (gl_d e)), lv, it, tn, on) (nx, kp) := ii_mk hI hR rfl hE h30 hY
  rcases cp_one v1 with h | ⟨a, ha, rfl⟩
  · exact xw_part0 h (yw_part0 h ⟨rfl, rel⟩)
  · exact xw_part hI hR ha (fun r hr => yw_part hA hY ha (fun r' hr' => ⟨bm_eq hr' hr (fun _ _ => Iff.rfl), rel⟩))
theorem i_vc_parts {k : Nat} {u : SX} {v : SY} (I : i_Rel k u v) (hk : k + 3 ≤ 1536) : wpX_parts (fun r => wpY_parts (fun r' => r' = r ∧ i_Rel (k + 3) u v) v) u := by
  refine ii_el (P := fun u v => wpX_parts (fun r => wpY_parts (fun r' => r' = r ∧ i_Rel (k + 3) u v) v) u) ?_ I
  intro e E lv it tn on nx kp hI hR hE h30 hY
  exact yw_parts (gl_dok hI.1) hY ⟨rfl, ii_mk hI hR rfl hE h30 hY⟩
theorem i_vc_isEdge {k : Nat} {u : SX} {v : SY} (I : i_Rel k u v) (hk : k + 3 ≤ 1536) (v1 : Int32) (v2 : Int32) : wpX_isEdge (fun r => wpY_isEdge (fun r' => r' = r ∧ i_Rel (k + 3) u v) v v1 v2) u v1 v2 := by
  refine ii_el (P := fun u v => wpX_isEdge (fun r => wpY_isEdge (fun r' => r' = r ∧ i_Rel (k + 3) u v) v v1 v2) u v1 v2) ?_ I
  intro e E lv it tn on nx kp hI hR hE h30 hY
  have hA := gl_dok hI.1
  have rel : i_Rel (k + 3) (nI E, nI (gr_k (gl_d e)), lv, it, tn, on) (nx, kp) := ii_mk hI hR rfl hE h30 hY
  rcases cp_two v1 v2 with h | ⟨a, ha, rfl, rfl⟩ | ⟨a, b, ha, hb, hab, rfl, rfl⟩
  · exact xw_isEdge0 (Or.inl h) (yw_isEdge0 h ⟨rfl, rel⟩)
  · exact xw_isEdge0 (Or.inr ⟨a, ha, rfl, rfl⟩) (yw_isEdge hY ha ha (fun z => absurd rfl (hA.2 _ _ z).2.2) (fun _ => ⟨rfl, rel⟩))
  · refine xw_isEdge hI.1 hR ha hb hab (fun hd => ?_) (fun hd => ?_)
    · exact yw_isEdge hY ha hb (fun _ => ⟨rfl, rel⟩) (fun z => absurd hd z)
    · exact yw_isEdge hY ha hb (fun z => absurd z hd) (fun _ => ⟨rfl, rel⟩)
theorem i_vc_isBridge {k : Nat} {u : SX} {v : SY} (I : i_Rel k u v) (hk : k + 3 ≤ 1536) (v1 : Int32) (v2 : Int32) : wpX_isBridge (fun r u' => wpY_isBridge (fun r' v' => r' = r ∧ i_Rel (k + 3) u' v') v v1 v2) u v1 v2 := by
  refine ii_el (P := fun u v => wpX_isBridge (fun r u' => wpY_isBridge (fun r' v' => r' = r ∧ i_Rel (k + 3) u' v') v v1 v2) u v1 v2) ?_ I
  intro e E lv it tn on nx kp hI hR hE h30 hY
  have hA := gl_dok hI.1
  rcases cp_two v1 v2 with h | ⟨a, ha, rfl, rfl⟩ | ⟨a, b, ha, hb, hab, rfl, rfl⟩
  · exact xw_bridge00 (Or.inl h) (yw_bridge00 h ⟨rfl, ii_mk hI hR rfl hE h30 hY⟩)
  · exact xw_bridge00 (Or.inr ⟨a, ha, rfl, rfl⟩) (yw_bridge0 hY ha ha (fun z => absurd rfl (hA.2 _ _ z).2.2) ⟨rfl, ii_mk hI hR rfl hE h30 hY⟩)
  · by_cases hd : gl_d e a b
    · refine xw_bridge hI hR hd ?_ ?_
      · intro r lv' it' tn' on' hR'
        exact yw_bridge hA hY hd (fun nx' hY' _ => ⟨rfl, ii_mk hI hR' rfl hE h30 hY'⟩) (fun nx' hY' z => absurd r z)
      · intro r lv' it' tn' on' hR'
        exact yw_bridge hA hY hd (fun nx' hY' z => absurd z r) (fun nx' hY' _ => ⟨rfl, ii_mk hI hR' rfl hE h30 hY'⟩)
    · exact xw_bridge0 hI.1 hR ha hb hab hd (yw_bridge0 hY ha hb hd ⟨rfl, ii_mk hI hR rfl hE h30 hY⟩)
theorem i_vc_edges {k : Nat} {u : SX} {v : SY} (I : i_Rel k u v) (hk : k + 3 ≤ 1536) : wpX_edges (fun r => wpY_edges (fun r' => r' = r ∧ i_Rel (k + 3) u v) v) u := by
  refine ii_el (P := fun u v => wpX_edges (fun r => wpY_edges (fun r' => r' = r ∧ i_Rel (k + 3) u v) v) u) ?_ I
  intro e E lv it tn on nx kp hI hR hE h30 hY
  have he2 : gr_e (gl_d e) / 2 = E := by omega
  exact yw_edges hY ⟨congrArg nI he2, ii_mk hI hR rfl hE h30 hY⟩
theorem i_vc_spare {k : Nat} {u : SX} {v : SY} (I : i_Rel k u v) (hk : k + 3 ≤ 1536) : wpX_spare (fun r => wpY_spare (fun r' v' => r' = r ∧ i_Rel (k + 3) u v') v) u := by
  refine ii_el (P := fun u v => wpX_spare (fun r => wpY_spare (fun r' v' => r' = r ∧ i_Rel (k + 3) u v') v) u) ?_ I
  intro e E lv it tn on nx kp hI hR hE h30 hY
  refine yw_spare (gl_dok hI.1) hY ?_
  intro c nx' kp' hc hY'
  refine ⟨?_, ii_mk hI hR rfl hE h30 hY'⟩
  have hk12 : gr_k (gl_d e) ≤ 12 := gr_kle
  have e1 : (12 : Int32) - nI (gr_k (gl_d e)) = nI (12 - gr_k (gl_d e)) := pk_sub (a := 12) hk12
  rw [e1, pk_sub (by omega)]
  exact congrArg nI (by omega)
theorem i_vc_isolate {k : Nat} {u : SX} {v : SY} (I : i_Rel k u v) (hk : k + 3 ≤ 1536) (v1 : Int32) : wpX_isolate (fun r u' => wpY_isolate (fun r' v' => r' = r ∧ i_Rel (k + 3) u' v') v v1) u v1 := by
  refine ii_el (P := fun u v => wpX_isolate (fun r u' => wpY_isolate (fun r' v' => r' = r ∧ i_Rel (k + 3) u' v') v v1) u v1) ?_ I
  intro e E lv it tn on nx kp hI hR hE h30 hY
  have hA := gl_dok hI.1
  rcases cp_one v1 with h | ⟨a, ha, rfl⟩
  · exact xw_isolate0 h (yw_isolate0 h ⟨rfl, ii_mk hI hR rfl hE h30 hY⟩)
  · exact xw_isolate hA (ii_S hI hR rfl hE h30) ha (fun s' hs' => yw_isolate hA hY ha (fun nx' hY' => ⟨rfl, _, hs', hY'⟩))
theorem i_vc_greatest {k : Nat} {u : SX} {v : SY} (I : i_Rel k u v) (hk : k + 3 ≤ 1536) : wpX_greatest (fun r => wpY_greatest (fun r' => r' = r ∧ i_Rel (k + 3) u v) v) u := by
  refine ii_el (P := fun u v => wpX_greatest (fun r => wpY_greatest (fun r' => r' = r ∧ i_Rel (k + 3) u v) v) u) ?_ I
  intro e E lv it tn on nx kp hI hR hE h30 hY
  exact xw_greatest hI hR (yw_greatest (gl_dok hI.1) hY ⟨rfl, ii_mk hI hR rfl hE h30 hY⟩)
end
