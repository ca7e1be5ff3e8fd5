section
/-! 01: rows pasted from the kit (PURE-ROWS, BITS) -/
theorem pk_us {f : Nat → Int32} {k : Nat} {x : Int32} : upd f k x k = x := if_pos rfl
theorem pk_un {f : Nat → Int32} {k j : Nat} {x : Int32} (h : j ≠ k) : upd f k x j = f j := if_neg h
theorem pk_sub {a b : Nat} (h : b ≤ a) : nI a - nI b = nI (a - b) := by
  obtain ⟨c, rfl⟩ : ∃ c, a = c + b := ⟨a - b, by omega⟩
  rw [← nI_add, Int32.add_sub_cancel, Nat.add_sub_cancel]
theorem pk_m1 (n : Nat) : nI (n + 1) + (-1) = nI n := by
  rw [← nI_1, Int32.add_assoc, show (1 : Int32) + (-1) = 0 from rfl, Int32.add_zero]
theorem pk_mul (a b : Nat) : nI a * nI b = nI (a * b) := (Int32.ofNat_mul a b).symm
theorem pk_div {a d : Nat} (ha : a < 2 ^ 31) (h0 : 0 < d) (hd : d < 2 ^ 31) : nI a / nI d = nI (a / d) := by
  apply Int32.toInt_inj.mp
  rw [lg_idiv_nonneg (by rw [nI_toInt ha]; omega) (by rw [nI_toInt hd]; omega), nI_toInt ha, nI_toInt hd, nI_toInt (Nat.lt_of_le_of_lt (Nat.div_le_self a d) ha)]
  first | rfl | exact (Int.natCast_ediv _ _).symm
theorem pk_rem {a d : Nat} (ha : a < 2 ^ 31) (h0 : 0 < d) (hd : d < 2 ^ 31) : nI a - nI a / nI d * nI d = nI (a % d) := by
  rw [pk_div ha h0 hd, pk_mul, pk_sub (Nat.div_mul_le_self a d)]
  exact congrArg nI (by have := Nat.div_add_mod' a d; omega)
theorem pk_le {x y : Int32} {A B : Prop} (a b : Nat) (f : a ≤ b → A) (g : b < a → B) (hx : x = nI a := by rfl) (hy : y = nI b := by rfl) (ha : a < 2 ^ 31 := by omega) (hb : b < 2 ^ 31 := by omega) : (x ≤ y → A) ∧ (¬ x ≤ y → B) := by
  subst hx hy
  rw [nI_leI ha hb]
  exact ⟨f, fun z => g (by omega)⟩
theorem pk_lt {x y : Int32} {A B : Prop} (a b : Nat) (f : a < b → A) (g : b ≤ a → B) (hx : x = nI a := by rfl) (hy : y = nI b := by rfl) (ha : a < 2 ^ 31 := by omega) (hb : b < 2 ^ 31 := by omega) : (x < y → A) ∧ (¬ x < y → B) := by
  subst hx hy
  rw [nI_ltI ha hb]
  exact ⟨f, fun z => g (by omega)⟩
theorem pk_eq {x y : Int32} {A B : Prop} (a b : Nat) (f : a = b → A) (g : a ≠ b → B) (hx : x = nI a := by rfl) (hy : y = nI b := by rfl) (ha : a < 2 ^ 31 := by omega) (hb : b < 2 ^ 31 := by omega) : (x = y → A) ∧ (¬ x = y → B) := by
  subst hx hy
  rw [nI_eq ha hb]
  exact ⟨f, g⟩
theorem pk_in {x : Int32} (n N : Nat) (h : n < N) (hx : x = nI n := by rfl) (hN : N < 2 ^ 31 := by omega) : vp_in x N := by
  subst hx
  exact vp_in_nI h hN
theorem pk_cl {x : Int32} (n : Nat) (hx : x = nI n := by rfl) (h : n < 2 ^ 31 := by omega) : x.toNatClampNeg = n := by
  subst hx
  exact nI_clamp h
theorem pk_loop {σ : Type} (W : Nat → Nat → σ → Prop) (I : Nat → σ → Prop) (e i0 : Nat) (s : σ) (hi : i0 ≤ e) (h0 : I i0 s) (hx : ∀ n s, I e s → W (n + 1) e s)
    (hs : ∀ n i s, i < e → I i s → (∀ s', I (i + 1) s' → W n (i + 1) s') → W (n + 1) i s) : ∃ n, W n i0 s :=
  ⟨e + 1, loop_i W I e hx hs (e + 1) i0 s hi (by omega) h0⟩
theorem pk_loopD {σ : Type} (W : Nat → Nat → σ → Prop) (I : Nat → σ → Prop) (hx : ∀ n s, I 0 s → W (n + 1) 0 s)
    (hs : ∀ n i s, I (i + 1) s → (∀ s', I i s' → W n i s') → W (n + 1) (i + 1) s) : ∀ (e : Nat) (s : σ), I e s → W (e + 1) e s := by
  intro e
  induction e with
  | zero => exact fun s h => hx 0 s h
  | succ e ih => exact fun s h => hs (e + 1) e s h (fun s' h' => ih s' h')
theorem pk_least (P : Nat → Prop) (h : ∃ k, P k) : ∃ k, P k ∧ ∀ j, j < k → ¬ P j := by
  obtain ⟨k, hk⟩ := h
  induction k using Nat.strongRecOn with
  | ind k ih =>
    by_cases e : ∃ j, j < k ∧ P j
    · obtain ⟨j, hj, pj⟩ := e
      exact ih j hj pj
    · exact ⟨k, hk, fun j hj pj => e ⟨j, hj, pj⟩⟩
def bt (x : Int32) (i : Nat) : Bool := x.toBitVec.getLsbD i
theorem b_ext {x y : Int32} (h : ∀ i, i < 32 → bt x i = bt y i) : x = y := Int32.toBitVec_inj.mp (BitVec.eq_of_getLsbD_eq (fun i hi => h i hi))
theorem b_or (x y : Int32) (i : Nat) : bt (x ||| y) i = (bt x i || bt y i) := by unfold bt; rw [Int32.toBitVec_or, BitVec.getLsbD_or]
theorem b_and (x y : Int32) (i : Nat) : bt (x &&& y) i = (bt x i && bt y i) := by unfold bt; rw [Int32.toBitVec_and, BitVec.getLsbD_and]
theorem b_xor (x y : Int32) (i : Nat) : bt (x ^^^ y) i = (bt x i ^^ bt y i) := by unfold bt; rw [Int32.toBitVec_xor, BitVec.getLsbD_xor]
theorem b_big {x : Int32} {i : Nat} (h : 32 ≤ i) : bt x i = false := BitVec.getLsbD_of_ge _ _ h
theorem b_255 (i : Nat) : bt 255 i = decide (i < 8) := by
  rcases Nat.lt_or_ge i 32 with h | h
  · exact (by decide +kernel : ∀ i, i < 32 → bt 255 i = decide (i < 8)) i h
  · rw [b_big h, decide_eq_false (by omega)]
theorem b_65535 (i : Nat) : bt 65535 i = decide (i < 16) := by
  rcases Nat.lt_or_ge i 32 with h | h
  · exact (by decide +kernel : ∀ i, i < 32 → bt 65535 i = decide (i < 16)) i h
  · rw [b_big h, decide_eq_false (by omega)]
theorem b_m1 : ∀ i, i < 32 → bt (-1) i = true := by decide +kernel
theorem b_0 (i : Nat) : bt 0 i = false := BitVec.getLsbD_zero
theorem s_l : ∀ n, n < 32 → ((nI n &&& 31).toBitVec.smod 32).toNat = n := by decide +kernel
theorem s_u : ∀ n, n < 32 → (((nI n).toUInt32 &&& Int32.toUInt32 31).toBitVec % 32).toNat = n := by decide +kernel
theorem b_shl (n : Nat) (hn : n < 32) (x : Int32) {i : Nat} (hi : i < 32) : bt (x <<< (nI n &&& 31)) i = (decide (n ≤ i) && bt x (i - n)) := by
  unfold bt
  rw [Int32.toBitVec_shiftLeft]
  show (x.toBitVec <<< ((nI n &&& 31).toBitVec.smod 32).toNat).getLsbD i = _
  rw [s_l n hn, BitVec.getLsbD_shiftLeft]
  rcases Nat.lt_or_ge i n with h | h
  · simp [h, Nat.not_le.mpr h]
  · simp [hi, h, Nat.not_lt.mpr h]
theorem b_ushr (n : Nat) (hn : n < 32) (x : Int32) (i : Nat) : bt ((x.toUInt32 >>> ((nI n).toUInt32 &&& Int32.toUInt32 31)).toInt32) i = bt x (n + i) := by
  show (x.toUInt32 >>> ((nI n).toUInt32 &&& Int32.toUInt32 31)).toBitVec.getLsbD i = x.toUInt32.toBitVec.getLsbD (n + i)
  rw [UInt32.toBitVec_shiftRight]
  show (x.toUInt32.toBitVec >>> (((nI n).toUInt32 &&& Int32.toUInt32 31).toBitVec % 32).toNat).getLsbD i = _
  rw [s_u n hn, BitVec.getLsbD_ushiftRight]
theorem b_sshr (n : Nat) (hn : n < 32) (x : Int32) {i : Nat} (hi : i < 32) : bt (x >>> (nI n &&& 31)) i = if n + i < 32 then bt x (n + i) else bt x 31 := by
  unfold bt
  rw [Int32.toBitVec_shiftRight]
  show (x.toBitVec.sshiftRight ((nI n &&& 31).toBitVec.smod 32).toNat).getLsbD i = _
  rw [s_l n hn, BitVec.getLsbD_sshiftRight, BitVec.msb_eq_getLsbD_last]
  simp [hi]
end
section
/-! 02: trees by a parent function, paths, semidominators, dominators (numbers alone; no program in sight) -/
def kt_it (f : Nat → Nat) : Nat → Nat → Nat
  | 0, x => x
  | m + 1, x => kt_it f m (f x)
def kt_an (f : Nat → Nat) (i j : Nat) : Prop := ∃ m, kt_it f m j = i
def kt_Tr (f : Nat → Nat) : Prop := f 0 = 0 ∧ ∀ x, 0 < x → f x < x
theorem kt_Tr_le {f : Nat → Nat} (h : kt_Tr f) (x : Nat) : f x ≤ x := by
  rcases Nat.eq_zero_or_pos x with h0 | h0
  · subst h0; rw [h.1]; exact Nat.le_refl _
  · exact Nat.le_of_lt (h.2 x h0)
theorem kt_it_add (f : Nat → Nat) : ∀ m k x, kt_it f (m + k) x = kt_it f k (kt_it f m x) := by
  intro m
  induction m with
  | zero => intro k x; rw [Nat.zero_add]; rfl
  | succ m ih => intro k x; rw [Nat.add_right_comm]; exact ih k (f x)
theorem kt_an_rf {f : Nat → Nat} (i : Nat) : kt_an f i i := ⟨0, rfl⟩
theorem kt_an_tr {f : Nat → Nat} {i j k : Nat} (h : kt_an f i j) (h2 : kt_an f j k) : kt_an f i k := by
  obtain ⟨a, ha⟩ := h
  obtain ⟨b, hb⟩ := h2
  exact ⟨b + a, by rw [kt_it_add, hb, ha]⟩
theorem kt_an_up {f : Nat → Nat} {i j : Nat} (h : kt_an f i (f j)) : kt_an f i j := by
  obtain ⟨a, ha⟩ := h
  exact ⟨a + 1, ha⟩
theorem kt_an_pa {f : Nat → Nat} (j : Nat) : kt_an f (f j) j := ⟨1, rfl⟩
theorem kt_an_ca {f : Nat → Nat} {i j : Nat} (h : kt_an f i j) : i = j ∨ kt_an f i (f j) := by
  obtain ⟨a, ha⟩ := h
  cases a with
  | zero => exact Or.inl ha.symm
  | succ a => exact Or.inr ⟨a, ha⟩
theorem kt_an_le {f : Nat → Nat} (T : kt_Tr f) {i j : Nat} (h : kt_an f i j) : i ≤ j := by
  obtain ⟨a, ha⟩ := h
  induction a generalizing j with
  | zero => exact Nat.le_of_eq ha.symm
  | succ a ih => exact Nat.le_trans (ih (j := f j) ha) (kt_Tr_le T j)
theorem kt_an_lt {f : Nat → Nat} {i j : Nat} (h : kt_an f i j) (hl : i < j) : kt_an f i (f j) := by
  rcases kt_an_ca h with e | e
  · omega
  · exact e
theorem kt_an_ch {f : Nat → Nat} (T : kt_Tr f) {i j k : Nat} (hi : kt_an f i k) (hj : kt_an f j k) (h : i ≤ j) : kt_an f i j := by
  obtain ⟨m, hm⟩ := hj
  induction m generalizing k with
  | zero =>
    have e : k = j := hm
    rw [← e]; exact hi
  | succ m ih =>
    rcases kt_an_ca hi with e | e
    · have h1 : kt_an f j (f k) := ⟨m, hm⟩
      have h2 := kt_an_le T h1
      have h3 := kt_Tr_le T k
      have h4 : i = j := by omega
      rw [h4]; exact kt_an_rf j
    · exact ih (k := f k) e hm
theorem kt_an_0 {f : Nat → Nat} (T : kt_Tr f) (j : Nat) : kt_an f 0 j := by
  induction j using Nat.strongRecOn with
  | ind j ih =>
    rcases Nat.eq_zero_or_pos j with h | h
    · rw [h]; exact kt_an_rf 0
    · exact kt_an_up (ih (f j) (T.2 j h))
theorem kt_an_as {f : Nat → Nat} (T : kt_Tr f) {i j : Nat} (h : kt_an f i j) (h2 : kt_an f j i) : i = j :=
  Nat.le_antisymm (kt_an_le T h) (kt_an_le T h2)
theorem kt_an_cg {f g : Nat → Nat} (T : kt_Tr f) {j : Nat} (h : ∀ x, x ≤ j → f x = g x) {i : Nat} : kt_an f i j ↔ kt_an g i j := by
  have key : ∀ m j, (∀ x, x ≤ j → f x = g x) → kt_it f m j = kt_it g m j := by
    intro m
    induction m with
    | zero => intro j _; rfl
    | succ m ih =>
      intro j hj
      show kt_it f m (f j) = kt_it g m (g j)
      rw [← hj j (Nat.le_refl j)]
      exact ih (f j) (fun x hx => hj x (Nat.le_trans hx (kt_Tr_le T j)))
  constructor
  · rintro ⟨m, hm⟩; exact ⟨m, by rw [← key m j h]; exact hm⟩
  · rintro ⟨m, hm⟩; exact ⟨m, by rw [key m j h]; exact hm⟩
theorem kt_ct {f : Nat → Nat} {n : Nat} (C : ∀ j, 0 < j → j < n → kt_an f (f j) (j - 1)) : ∀ d i k, kt_an f i (k + d) → i ≤ k → k + d < n → kt_an f i k := by
  intro d
  induction d with
  | zero => intro i k h _ _; exact h
  | succ d ih =>
    intro i k h hi hn
    refine ih i k ?_ hi (by omega)
    have h1 := kt_an_lt h (by omega)
    have h2 := C (k + (d + 1)) (by omega) hn
    have e : k + (d + 1) - 1 = k + d := by omega
    rw [e] at h2
    exact kt_an_tr h1 h2
/-- a path of k edges from x to y; all vertices but the first have Q -/
def kt_pt (E : Nat → Nat → Prop) (Q : Nat → Prop) : Nat → Nat → Nat → Prop
  | 0, x, y => x = y
  | k + 1, x, y => ∃ z, kt_pt E Q k x z ∧ E z y ∧ Q y
theorem kt_pt_s {E : Nat → Nat → Prop} {Q : Nat → Prop} {k x y z : Nat} (h1 : kt_pt E Q k x z) (h2 : E z y) (h3 : Q y) : kt_pt E Q (k + 1) x y := Exists.intro z (And.intro h1 (And.intro h2 h3))
theorem kt_pt_mo {E E' : Nat → Nat → Prop} {Q Q' : Nat → Prop} (hE : ∀ a b, E a b → E' a b) (hQ : ∀ v, Q v → Q' v) : ∀ k x y, kt_pt E Q k x y → kt_pt E' Q' k x y := by
  intro k
  induction k with
  | zero => intro x y h; exact h
  | succ k ih =>
    intro x y h
    obtain ⟨z, h1, h2, h3⟩ := h
    exact kt_pt_s (ih x z h1) (hE z y h2) (hQ y h3)
theorem kt_pt_mq {E : Nat → Nat → Prop} {Q Q' : Nat → Prop} {k x y : Nat} (h : kt_pt E Q k x y) (hQ : ∀ v, Q v → Q' v) : kt_pt E Q' k x y := kt_pt_mo (fun _ _ z => z) hQ k x y h
theorem kt_pt_ap {E : Nat → Nat → Prop} {Q : Nat → Prop} : ∀ l k x y z, kt_pt E Q k x y → kt_pt E Q l y z → kt_pt E Q (k + l) x z := by
  intro l
  induction l with
  | zero =>
    intro k x y z h1 h2
    have e : y = z := h2
    rw [← e]; exact h1
  | succ l ih =>
    intro k x y z h1 h2
    obtain ⟨w, a, b, c⟩ := h2
    exact kt_pt_s (ih k x y w h1 a) b c
/-- a path from x to y whose inner vertices are all above y -/
def kt_sp (E : Nat → Nat → Prop) (x y : Nat) : Prop := ∃ k z, kt_pt E (fun v => y < v) k x z ∧ E z y
theorem kt_sp_e {E : Nat → Nat → Prop} {x y : Nat} (h : E x y) : kt_sp E x y := ⟨0, x, rfl, h⟩
/-- numbers 0 .. n-1 in depth-first order: tree, parents' interval, edges within, tree edges, edges upward go to descendants -/
def kt_G (E : Nat → Nat → Prop) (tp : Nat → Nat) (n : Nat) : Prop :=
  kt_Tr tp ∧ (∀ j, 0 < j → j < n → kt_an tp (tp j) (j - 1)) ∧ (∀ i j, E i j → i < n ∧ j < n) ∧ (∀ j, 0 < j → j < n → E (tp j) j) ∧ (∀ i j, E i j → i < j → kt_an tp i j)
section
variable {E : Nat → Nat → Prop} {tp : Nat → Nat} {n : Nat}
theorem kt_gC (G : kt_G E tp n) {i j k : Nat} (h : kt_an tp i j) (hi : i ≤ k) (hk : k ≤ j) (hj : j < n) : kt_an tp i k := by
  obtain ⟨d, rfl⟩ : ∃ d, j = k + d := ⟨j - k, by omega⟩
  exact kt_ct G.2.1 d i k h hi hj
theorem kt_gR (G : kt_G E tp n) {i j : Nat} (h : E i j) : i < n ∧ j < n := G.2.2.1 i j h
theorem kt_gP (G : kt_G E tp n) {j : Nat} (h0 : 0 < j) (h : j < n) : E (tp j) j := G.2.2.2.1 j h0 h
theorem kt_gD (G : kt_G E tp n) {i j : Nat} (h : E i j) (hl : i < j) : kt_an tp i j := G.2.2.2.2 i j h hl
/-- the way down the tree -/
theorem kt_tpath (G : kt_G E tp n) (i : Nat) : ∀ j, j < n → kt_an tp i j → ∃ k, kt_pt E (fun v => i < v ∧ kt_an tp v j) k i j := by
  intro j
  induction j using Nat.strongRecOn with
  | ind j ih =>
    intro hj h
    have hle := kt_an_le G.1 h
    rcases Nat.eq_or_lt_of_le hle with e | e
    · exact ⟨0, e⟩
    · have hp : tp j < j := G.1.2 j (by omega)
      obtain ⟨k, hk⟩ := ih (tp j) hp (by omega) (kt_an_lt h e)
      exact ⟨k + 1, kt_pt_s (kt_pt_mq hk (fun v hv => ⟨hv.1, kt_an_up hv.2⟩)) (kt_gP G (by omega) hj) ⟨e, kt_an_rf j⟩⟩
theorem kt_d2 (G : kt_G E tp n) {Q : Nat → Prop} {x y : Nat} : ∀ k z, kt_pt E Q k x z → y ≤ z → kt_pt E (fun v => Q v ∧ y < v) k x z ∨ ∃ v k', k' ≤ k ∧ 0 < k' ∧ kt_pt E Q k' x v ∧ kt_an tp v y := by
  intro k
  induction k with
  | zero => intro z h _; exact Or.inl h
  | succ k ih =>
    intro z h hy
    obtain ⟨z', h1, h2, h3⟩ := h
    rcases Nat.eq_or_lt_of_le hy with e | e
    · refine Or.inr ⟨z, k + 1, Nat.le_refl _, Nat.succ_pos _, kt_pt_s h1 h2 h3, ?_⟩
      rw [e]; exact kt_an_rf z
    · rcases Nat.lt_or_ge z' y with hz | hz
      · rcases Nat.eq_zero_or_pos k with hk | hk
        · subst hk
          have e1 : x = z' := h1
          exact Or.inl (kt_pt_s (k := 0) (z := z') e1 h2 ⟨h3, e⟩)
        · refine Or.inr ⟨z', k, Nat.le_succ k, hk, h1, ?_⟩
          exact kt_gC G (kt_gD G h2 (by omega)) (by omega) (by omega) (kt_gR G h2).2
      · rcases ih z' h1 hz with h4 | ⟨v, k', a, b, c, d⟩
        · exact Or.inl (kt_pt_s h4 h2 ⟨h3, e⟩)
        · exact Or.inr ⟨v, k', by omega, b, c, d⟩
/-- of a path to an ancestor of t: an end of a semi-path that is an ancestor of t -/
theorem kt_lc (G : kt_G E tp n) {Q : Nat → Prop} {x t : Nat} : ∀ k, 0 < k → ∀ y, kt_pt E Q k x y → kt_an tp y t → ∃ y', Q y' ∧ kt_an tp y' t ∧ kt_sp E x y' := by
  intro k
  induction k using Nat.strongRecOn with
  | ind k ih =>
    intro hk y h ht
    obtain ⟨k0, rfl⟩ : ∃ k0, k = k0 + 1 := ⟨k - 1, by omega⟩
    obtain ⟨z, h1, h2, h3⟩ := h
    rcases Nat.eq_zero_or_pos k0 with e | e
    · subst e
      have e1 : x = z := h1
      exact ⟨y, h3, ht, kt_sp_e (e1 ▸ h2)⟩
    · rcases Nat.lt_or_ge z y with hz | hz
      · exact ih k0 (by omega) e z h1 (kt_an_tr (kt_gD G h2 hz) ht)
      · rcases kt_d2 G k0 z h1 hz with h4 | ⟨v, k', a, b, c, d⟩
        · exact ⟨y, h3, ht, ⟨k0, z, kt_pt_mq h4 (fun v hv => hv.2), h2⟩⟩
        · exact ih k' (by omega) b v c (kt_an_tr d ht)
theorem kt_sp_t (G : kt_G E tp n) {x u v w : Nat} (h : kt_sp E x u) (hw : w < u) (ha : kt_an tp u v) (he : E v w) : kt_sp E x w := by
  obtain ⟨k, z, h1, h2⟩ := h
  obtain ⟨l, h3⟩ := kt_tpath G u v (kt_gR G he).1 ha
  exact ⟨k + 1 + l, v, kt_pt_ap l (k + 1) x u v (kt_pt_s (kt_pt_mq h1 (fun a ha => Nat.lt_trans hw ha)) h2 hw) (kt_pt_mq h3 (fun a ha => Nat.lt_trans hw ha.1)), he⟩
theorem kt_sp_d (G : kt_G E tp n) {x w : Nat} (h : kt_sp E x w) : E x w ∨ ∃ u v, w < u ∧ kt_an tp u v ∧ E v w ∧ kt_sp E x u := by
  obtain ⟨k, z, h1, h2⟩ := h
  rcases Nat.eq_zero_or_pos k with e | e
  · subst e
    have e1 : x = z := h1
    rw [e1]; exact Or.inl h2
  · obtain ⟨y, a, b, c⟩ := kt_lc G k e z h1 (kt_an_rf z)
    exact Or.inr ⟨y, z, a, b, h2, c⟩
theorem kt_pa (G : kt_G E tp n) {x : Nat} : ∀ k y, kt_pt E (fun v => x ≤ v) k x y → kt_an tp x y := by
  intro k
  induction k with
  | zero =>
    intro y h
    have e : x = y := h
    rw [e]; exact kt_an_rf y
  | succ k ih =>
    intro y h
    obtain ⟨z, h1, h2, h3⟩ := h
    have hz := ih z h1
    rcases Nat.lt_or_ge z y with c | c
    · exact kt_an_tr hz (kt_gD G h2 c)
    · exact kt_gC G hz h3 c (kt_gR G h2).1
theorem kt_sp_an (G : kt_G E tp n) {x w : Nat} (h : kt_sp E x w) (hl : x < w) : kt_an tp x w := by
  obtain ⟨k, z, h1, h2⟩ := h
  exact kt_pa G (k + 1) w (kt_pt_s (kt_pt_mq h1 (fun v hv => Nat.le_of_lt (Nat.lt_trans hl hv))) h2 (Nat.le_of_lt hl))
/-- s is the semidominator of w -/
def kt_Sd (E : Nat → Nat → Prop) (s w : Nat) : Prop := kt_sp E s w ∧ ∀ x, kt_sp E x w → s ≤ x
theorem kt_Sd_lt (G : kt_G E tp n) {s w : Nat} (h : kt_Sd E s w) (h0 : 0 < w) (hn : w < n) : s < w :=
  Nat.lt_of_le_of_lt (h.2 (tp w) (kt_sp_e (kt_gP G h0 hn))) (G.1.2 w h0)
/-- there is a path from 0 to y on which d doesn't lie -/
def kt_av (E : Nat → Nat → Prop) (d y : Nat) : Prop := 0 ≠ d ∧ ∃ k, kt_pt E (fun v => v ≠ d) k 0 y
theorem kt_av_t (G : kt_G E tp n) {d a w : Nat} (h : kt_av E d a) (ha : kt_an tp a w) (hw : w < n) (hv : ∀ v, kt_an tp v w → a < v → v ≠ d) : kt_av E d w := by
  obtain ⟨h0, k, hk⟩ := h
  obtain ⟨l, hl⟩ := kt_tpath G a w hw ha
  exact ⟨h0, k + l, kt_pt_ap l k 0 a w hk (kt_pt_mq hl (fun v h => hv v h.2 h.1))⟩
theorem kt_dm_an (G : kt_G E tp n) {d w : Nat} (h : ¬ kt_av E d w) (hw : w < n) : kt_an tp d w := by
  by_cases c : kt_an tp d w
  · exact c
  · exfalso
    apply h
    refine kt_av_t G (a := 0) ⟨fun e => c (e ▸ kt_an_0 G.1 w), 0, rfl⟩ (kt_an_0 G.1 w) hw ?_
    intro v hv _ e
    exact c (e ▸ hv)
theorem kt_dm_rf (w : Nat) : ¬ kt_av E w w := by
  rintro ⟨h0, k, h⟩
  cases k with
  | zero => exact h0 h
  | succ k =>
    obtain ⟨z, _, _, h3⟩ := h
    exact h3 rfl
theorem kt_k0 {d : Nat} (hd : 0 < d) : ∀ k z, kt_pt E (fun v => v ≠ d) k 0 z → z < d ∨ ∃ x k', x < d ∧ 0 < k' ∧ kt_pt E (fun v => d < v) k' x z := by
  intro k
  induction k with
  | zero =>
    intro z h
    have e : 0 = z := h
    exact Or.inl (by omega)
  | succ k ih =>
    intro z h
    obtain ⟨z', h1, h2, h3⟩ := h
    rcases Nat.lt_or_ge z d with c | c
    · exact Or.inl c
    · have h3' : z ≠ d := h3
      have hz : d < z := by omega
      rcases ih z' h1 with h4 | ⟨x, k', a, b, e⟩
      · exact Or.inr ⟨z', 1, h4, Nat.one_pos, kt_pt_s (k := 0) (z := z') rfl h2 hz⟩
      · exact Or.inr ⟨x, k' + 1, a, Nat.succ_pos _, kt_pt_s e h2 hz⟩
theorem kt_kk (G : kt_G E tp n) {d w : Nat} (ha : kt_an tp d w) (h : kt_av E d w) : ∃ x y, x < d ∧ d < y ∧ kt_an tp y w ∧ kt_sp E x y := by
  obtain ⟨h0, k, hk⟩ := h
  rcases kt_k0 (by omega) k w hk with h1 | ⟨x, k', a, b, c⟩
  · have := kt_an_le G.1 ha
    omega
  · obtain ⟨y, p, q, r⟩ := kt_lc G k' b w c (kt_an_rf w)
    exact ⟨x, y, a, p, q, r⟩
theorem kt_dm_tr {a d w : Nat} (h1 : ¬ kt_av E d a) (h2 : ¬ kt_av E a w) : ¬ kt_av E d w := by
  have key : ∀ k z, kt_pt E (fun v => v ≠ d) k 0 z → kt_pt E (fun v => v ≠ a) k 0 z ∨ ∃ k', kt_pt E (fun v => v ≠ d) k' 0 a := by
    intro k
    induction k with
    | zero => intro z h; exact Or.inl h
    | succ k ih =>
      intro z h
      obtain ⟨z', p, q, r⟩ := h
      rcases ih z' p with c | c
      · by_cases e : z = a
        · exact Or.inr ⟨k + 1, e ▸ kt_pt_s p q r⟩
        · exact Or.inl (kt_pt_s c q e)
      · exact Or.inr c
  rintro ⟨h0, k, hk⟩
  by_cases ha : 0 = a
  · exact h1 (ha ▸ ⟨h0, 0, rfl⟩)
  · rcases key k w hk with h3 | ⟨k', h3⟩
    · exact h2 ⟨ha, k, h3⟩
    · exact h1 ⟨h0, k', h3⟩
theorem kt_dm_s (G : kt_G E tp n) {d s w : Nat} (h : ¬ kt_av E d w) (hne : d ≠ w) (hs : kt_sp E s w) (hl : s < w) (hw : w < n) : kt_an tp d s := by
  by_cases c : kt_an tp d s
  · exact c
  · exfalso
    have hd := kt_an_le G.1 (kt_dm_an G h hw)
    have a1 : kt_av E d s := by
      refine kt_av_t G (a := 0) ⟨fun e => c (e ▸ kt_an_0 G.1 s), 0, rfl⟩ (kt_an_0 G.1 s) (by omega) ?_
      intro v hv _ e
      exact c (e ▸ hv)
    obtain ⟨h0, k1, p1⟩ := a1
    obtain ⟨k, z, p2, e⟩ := hs
    refine h ⟨h0, k1 + k + 1, kt_pt_s (kt_pt_ap k k1 0 s z p1 (kt_pt_mq p2 ?_)) e (Ne.symm hne)⟩
    intro v hv e2
    have hv' : w < v := hv
    omega
def kt_RI (tp s : Nat → Nat) (w u : Nat) : Prop := (u = s w ∧ ∀ y, kt_an tp y w → s w < y → s w ≤ s y) ∨ (kt_an tp u w ∧ s w < u ∧ s u < s w ∧ ∀ y, kt_an tp y w → s w < y → s u ≤ s y)
/-- j is the immediate dominator of w -/
def kt_Dm (E : Nat → Nat → Prop) (w j : Nat) : Prop := j < w ∧ ∀ d, ¬ kt_av E d w ↔ (d = w ∨ ¬ kt_av E d j)
theorem kt_c1 (G : kt_G E tp n) {s : Nat → Nat} (S : ∀ v, 0 < v → v < n → kt_Sd E (s v) v) {w : Nat} (h0 : 0 < w) (hw : w < n) (h : ∀ y, kt_an tp y w → s w < y → s w ≤ s y) : kt_Dm E w (s w) := by
  have Sw := S w h0 hw
  have lt := kt_Sd_lt G Sw h0 hw
  have an := kt_sp_an G Sw.1 lt
  have dw : ¬ kt_av E (s w) w := by
    intro a
    obtain ⟨x, y, p, q, r, t⟩ := kt_kk G an a
    have yw := kt_an_le G.1 r
    have h1 := (S y (by omega) (by omega)).2 x t
    have h2 := h y r q
    omega
  refine ⟨lt, fun d => ⟨fun hd => ?_, fun hd => ?_⟩⟩
  · by_cases e : d = w
    · exact Or.inl e
    · refine Or.inr (fun a => ?_)
      have h1 := kt_an_le G.1 (kt_dm_s G hd e Sw.1 lt hw)
      exact hd (kt_av_t G a an hw (fun v _ hv => by omega))
  · rcases hd with e | e
    · rw [e]; exact kt_dm_rf w
    · exact kt_dm_tr e dw
theorem kt_c2 (G : kt_G E tp n) {s : Nat → Nat} (S : ∀ v, 0 < v → v < n → kt_Sd E (s v) v) {w u j : Nat} (h0 : 0 < w) (hw : w < n) (ha : kt_an tp u w) (h1 : s w < u) (h2 : s u < s w) (h3 : ∀ y, kt_an tp y w → s w < y → s u ≤ s y) (hj : kt_Dm E u j) : kt_Dm E w j := by
  have Sw := S w h0 hw
  have lt := kt_Sd_lt G Sw h0 hw
  have uw := kt_an_le G.1 ha
  have une : u ≠ w := fun e => by rw [e] at h2; omega
  have hu0 : 0 < u := by omega
  have hu : u < n := by omega
  have Su := S u hu0 hu
  have ltu := kt_Sd_lt G Su hu0 hu
  have key : ∀ d, ¬ kt_av E d w ↔ (d = w ∨ (d ≠ u ∧ ¬ kt_av E d u)) := by
    intro d
    constructor
    · intro hd
      by_cases e : d = w
      · exact Or.inl e
      · have ad := kt_an_le G.1 (kt_dm_s G hd e Sw.1 lt hw)
        exact Or.inr ⟨by omega, fun a => hd (kt_av_t G a ha hw (fun v _ hv => by omega))⟩
    · rintro (e | ⟨e, hd⟩)
      · rw [e]; exact kt_dm_rf w
      · intro a
        have ad := kt_dm_s G hd e Su.1 ltu hu
        have dle := kt_an_le G.1 ad
        have adw : kt_an tp d w := kt_an_tr ad (kt_an_tr (kt_sp_an G Su.1 ltu) ha)
        have h00 := a.1
        obtain ⟨x, y, p, q, r, t⟩ := kt_kk G adw a
        have yw := kt_an_le G.1 r
        have ysx := (S y (by omega) (by omega)).2 x t
        rcases Nat.lt_or_ge (s w) y with hy | hy
        · have := h3 y r hy
          omega
        · have ayu : kt_an tp y u := kt_an_ch G.1 r ha (by omega)
          have avx : kt_av E d x := by
            refine kt_av_t G (a := 0) ⟨h00, 0, rfl⟩ (kt_an_0 G.1 x) (by omega) ?_
            intro v hv _ e2
            have := kt_an_le G.1 hv
            omega
          obtain ⟨_, k1, p1⟩ := avx
          obtain ⟨k, z, p2, e3⟩ := t
          have avy : kt_av E d y := by
            refine ⟨h00, k1 + k + 1, kt_pt_s (kt_pt_ap k k1 0 x z p1 (kt_pt_mq p2 ?_)) e3 (by omega)⟩
            intro v hv e2
            have hv' : y < v := hv
            omega
          exact hd (kt_av_t G avy ayu hu (fun v _ hv => by omega))
  have hju := hj.1
  refine ⟨by omega, fun d => (key d).trans ⟨?_, ?_⟩⟩
  · rintro (e | ⟨e, hd⟩)
    · exact Or.inl e
    · exact Or.inr (((hj.2 d).1 hd).resolve_left e)
  · rintro (e | hd)
    · exact Or.inl e
    · have := kt_an_le G.1 (kt_dm_an G hd (by omega))
      exact Or.inr ⟨by omega, (hj.2 d).2 (Or.inr hd)⟩
/-- the dominator tree: a chain of immediate dominators holds all dominators -/
theorem kt_fin {I : Nat → Nat} (TI : kt_Tr I) (h : ∀ w, 0 < w → w < n → kt_Dm E w (I w)) : ∀ w, w < n → ∀ d, ¬ kt_av E d w ↔ kt_an I d w := by
  intro w
  induction w using Nat.strongRecOn with
  | ind w ih =>
    intro hw d
    rcases Nat.eq_zero_or_pos w with e | e
    · subst e
      constructor
      · intro hd
        have : d = 0 := by
          by_cases c : d = 0
          · exact c
          · exact absurd ⟨fun q => c q.symm, 0, rfl⟩ hd
        rw [this]; exact kt_an_rf 0
      · intro hd
        have := kt_an_le TI hd
        have e : d = 0 := by omega
        rw [e]; exact kt_dm_rf 0
    · have hl := TI.2 w e
      refine ((h w e hw).2 d).trans ?_
      rw [ih (I w) hl (by omega) d]
      constructor
      · rintro (e | e)
        · rw [e]; exact kt_an_rf w
        · exact kt_an_up e
      · exact kt_an_ca
end
end
section
/-! 03: small rows (bits, lists by least), the forest invariant, evaluate -/
theorem kb_1 : ∀ i, i < 32 → bt 1 i = decide (i = 0) := by decide +kernel
theorem kb_val (x : Int32) {j : Nat} (hj : j < 32) : (((x.toUInt32 >>> ((nI j).toUInt32 &&& Int32.toUInt32 31)).toInt32) &&& 1) = if bt x j = true then 1 else 0 := by
  apply b_ext
  intro i hi
  rw [b_and, b_ushr j hj, kb_1 i hi]
  by_cases e : i = 0
  · subst e
    cases h : bt x j
    · simp [h, b_0]
    · simp [h, kb_1]
  · rw [decide_eq_false e, Bool.and_false]
    cases h : bt x j
    · simp [b_0]
    · simp [kb_1 i hi, e]
theorem kb_bit (x : Int32) {j : Nat} (hj : j < 32) : (((x.toUInt32 >>> ((nI j).toUInt32 &&& Int32.toUInt32 31)).toInt32) &&& 1) = 0 ↔ bt x j = false := by
  rw [kb_val x hj]
  cases h : bt x j
  · simp
  · simp
theorem kb_m1 : (-1 : Int32) < 0 := by decide
theorem kb_nm {n : Nat} (h : n < 2 ^ 31) : ¬ nI n = -1 := by
  intro e
  have := nI_pos h
  rw [e] at this
  exact this (by decide)
theorem kb_inj {a b : Nat} (e : nI a = nI b) (ha : a < 2 ^ 31) (hb : b < 2 ^ 31) : a = b := (nI_eq ha hb).mp e
def kt_up (f : Nat → Nat) (k x : Nat) : Nat → Nat := fun j => if j = k then x else f j
theorem kt_us {f : Nat → Nat} {k x : Nat} : kt_up f k x k = x := if_pos rfl
theorem kt_un {f : Nat → Nat} {k x j : Nat} (h : j ≠ k) : kt_up f k x j = f j := if_neg h
theorem kt_rp {n : Nat} {a : Nat → Int32} {f : Nat → Nat} (h : ∀ i, i < n → a i = nI (f i)) (k x : Nat) : ∀ i, i < n → upd a k (nI x) i = nI (kt_up f k x i) := by
  intro i hi
  by_cases e : i = k
  · rw [e, pk_us, kt_us]
  · rw [pk_un e, kt_un e]; exact h i hi
theorem kt_it_s (f : Nat → Nat) (k x : Nat) : kt_it f (k + 1) x = f (kt_it f k x) := kt_it_add f k 1 x
/-- h is the least of S, or -1 -/
def kt_Ls (h : Int32) (S : Nat → Prop) : Prop := (h = -1 ∧ ∀ v, ¬ S v) ∨ ∃ m, h = nI m ∧ S m ∧ ∀ v, S v → m ≤ v
theorem kt_Ls_cg {h : Int32} {S S' : Nat → Prop} (e : ∀ v, S v ↔ S' v) (H : kt_Ls h S) : kt_Ls h S' := by
  rcases H with ⟨a, b⟩ | ⟨m, a, b, c⟩
  · exact Or.inl ⟨a, fun v hv => b v ((e v).mpr hv)⟩
  · exact Or.inr ⟨m, a, (e m).mp b, fun v hv => c v ((e v).mpr hv)⟩
/-- the linked forest: vertices from c on are linked -/
def kt_FI (n c : Nat) (tp sm : Nat → Nat) (an lb : Nat → Int32) : Prop :=
  ∀ v, v < n → (v < c → an v = -1 ∧ lb v = nI v) ∧ (c ≤ v → ∃ a l, an v = nI a ∧ lb v = nI l ∧ kt_an tp a v ∧ a < v ∧ kt_an tp l v ∧ a < l ∧ ∀ y, kt_an tp y v → a < y → c ≤ y ∧ sm l ≤ sm y)
theorem kt_FI_cg {n c : Nat} {tp f g : Nat → Nat} {an lb : Nat → Int32} (T : kt_Tr tp) (h : kt_FI n c tp f an lb) (e : ∀ i, c ≤ i → i < n → f i = g i) : kt_FI n c tp g an lb := by
  intro v hv
  refine ⟨(h v hv).1, fun hc => ?_⟩
  obtain ⟨a, l, h1, h2, h3, h4, h5, h6, h7⟩ := (h v hv).2 hc
  have hl := kt_an_le T h5
  refine ⟨a, l, h1, h2, h3, h4, h5, h6, fun y hy hay => ?_⟩
  have hyv := kt_an_le T hy
  have hy2 := h7 y hy hay
  have hl2 := h7 l h5 h6
  rw [← e l hl2.1 (by omega), ← e y hy2.1 (by omega)]
  exact hy2
/-- w is linked to its parent -/
theorem kt_FI_ln {n w : Nat} {tp sm : Nat → Nat} {an lb : Nat → Int32} (T : kt_Tr tp) (h : kt_FI n (w + 1) tp sm an lb) (h0 : 0 < w) (hw : w < n) : kt_FI n w tp sm (upd an w (nI (tp w))) lb := by
  intro v hv
  by_cases e : v = w
  · subst e
    refine ⟨fun q => absurd q (Nat.lt_irrefl v), fun _ => ?_⟩
    refine ⟨tp v, v, pk_us, ((h v hv).1 (Nat.lt_succ_self v)).2, kt_an_pa v, T.2 v h0, kt_an_rf v, T.2 v h0, fun y hy hay => ?_⟩
    rcases kt_an_ca hy with q | q
    · subst q; exact ⟨Nat.le_refl _, Nat.le_refl _⟩
    · have := kt_an_le T q
      omega
  · rw [pk_un e]
    refine ⟨fun q => (h v hv).1 (by omega), fun q => ?_⟩
    obtain ⟨a, l, h1, h2, h3, h4, h5, h6, h7⟩ := (h v hv).2 (by omega)
    exact ⟨a, l, h1, h2, h3, h4, h5, h6, fun y hy hay => ⟨by have := (h7 y hy hay).1; omega, (h7 y hy hay).2⟩⟩
section
variable {f_roots f_fresh f_reached : Int32} {a_sizeOf a_refers a_number a_order a_treeParent a_stack a_untried a_semi a_idom a_ancestor a_label a_path a_bucketHead a_bucketNext a_keeperOf a_depthOf a_heldBy a_first a_last : Nat → Int32}
variable {tp sm : Nat → Nat} {n c : Nat}
theorem ke_fi {an lb lb' : Nat → Int32} {y a r l l2 l' : Nat} (T : kt_Tr tp) (FI : kt_FI n c tp sm an lb) (hcy : c ≤ y) (h1 : kt_an tp a y) (h2 : a < y) (h3 : kt_an tp l y) (h4 : a < l) (h5 : ∀ z, kt_an tp z y → a < z → c ≤ z ∧ sm l ≤ sm z) (g1 : kt_an tp r a) (g2 : r < a) (g3 : kt_an tp l2 a) (g4 : r < l2) (g5 : ∀ z, kt_an tp z a → r < z → c ≤ z ∧ sm l2 ≤ sm z) (hl' : l' = l ∨ l' = l2) (q1 : sm l' ≤ sm l) (q2 : sm l' ≤ sm l2) (hb : lb' y = nI l') (hb2 : ∀ j, j ≠ y → lb' j = lb j) : kt_FI n c tp sm (upd an y (nI r)) lb' := by
  intro v hv
  by_cases e : v = y
  · subst e
    refine ⟨fun q => by omega, fun _ => ⟨r, l', pk_us, hb, kt_an_tr g1 h1, by omega, ?_, ?_, fun z hz hrz => ?_⟩⟩
    · rcases hl' with e | e
      · rw [e]; exact h3
      · rw [e]; exact kt_an_tr g3 h1
    · rcases hl' with e | e
      · rw [e]; omega
      · rw [e]; exact g4
    · rcases Nat.lt_or_ge a z with q | q
      · have := h5 z hz q
        exact ⟨this.1, by omega⟩
      · have := g5 z (kt_an_ch T hz h1 q) hrz
        exact ⟨this.1, by omega⟩
  · rw [pk_un e, hb2 v e]
    exact FI v hv
theorem ke_72 {post : Int32 → SX → Prop} {P : Nat → Nat} (T : kt_Tr tp) (hn : n ≤ 17) (hs : ∀ i, i < n → a_semi i = nI (sm i)) (hsb : ∀ i, i < n → sm i < 17) :
    ∀ m, m < 18 → ∀ N, m < N → ∀ an lb : Nat → Int32, kt_FI n c tp sm an lb → (∀ j, j < m → an (P j) = nI (P (j + 1)) ∧ a_path j = nI (P j)) → (∀ i j, i < j → j ≤ m → P j < P i) → (∃ r, an (P m) = nI r ∧ r < c) → (∀ j, j ≤ m → c ≤ P j ∧ P j < n) →
    (∀ (an' lb' : Nat → Int32) (l : Nat), kt_FI n c tp sm an' lb' → l < n → c ≤ l → kt_an tp l (P 0) → (∀ y, kt_an tp y (P 0) → c ≤ y → sm l ≤ sm y) → post (nI l) (f_roots, f_fresh, f_reached, a_sizeOf, a_refers, a_number, a_order, a_treeParent, a_stack, a_untried, a_semi, a_idom, an', lb', a_path, a_bucketHead, a_bucketNext, a_keeperOf, a_depthOf, a_heldBy, a_first, a_last)) →
    wX_evaluate_72 post (nI (P 0)) f_roots f_fresh f_reached N (nI m - 1) a_sizeOf a_refers a_number a_order a_treeParent a_stack a_untried a_semi a_idom an lb a_path a_bucketHead a_bucketNext a_keeperOf a_depthOf a_heldBy a_first a_last := by
  intro m
  induction m with
  | zero =>
    intro _ N hN an lb FI _ _ hr hc K
    obtain ⟨N, rfl⟩ : ∃ N', N = N' + 1 := ⟨N - 1, by omega⟩
    have h0 := hc 0 (Nat.le_refl 0)
    obtain ⟨r, er, hr⟩ := hr
    obtain ⟨a, l, ea, el, h1, h2, h3, h4, h5⟩ := (FI (P 0) h0.2).2 h0.1
    have ear : a = r := kb_inj (ea.symm.trans er) (by omega) (by omega)
    have hle := kt_an_le T h3
    have hcl := (h5 l h3 h4).1
    refine br_t (show nI 0 - 1 < 0 by decide) ⟨pk_in (P 0) 17 (by omega), ?_⟩
    rw [nI_clamp (n := P 0) (by omega), el]
    exact K an lb l FI (by omega) hcl h3 (fun y hy hcy => (h5 y hy (by omega)).2)
  | succ m ih =>
    intro hm N hN an lb FI hP hd hr hc K
    obtain ⟨N, rfl⟩ : ∃ N', N = N' + 1 := ⟨N - 1, by omega⟩
    have hm0 := hc m (by omega)
    have hm1 := hc (m + 1) (Nat.le_refl _)
    obtain ⟨p1, p2⟩ := hP m (by omega)
    have p3 := hd m (m + 1) (Nat.lt_succ_self m) (Nat.le_refl _)
    obtain ⟨r, er, hr⟩ := hr
    obtain ⟨a, l, ea, el, h1, h2, h3, h4, h5⟩ := (FI (P m) hm0.2).2 hm0.1
    have ea2 : a = P (m + 1) := kb_inj (ea.symm.trans p1) (by omega) (by omega)
    subst ea2
    obtain ⟨a2, l2, ea2, el2, g1, g2, g3, g4, g5⟩ := (FI (P (m + 1)) hm1.2).2 hm1.1
    have er2 : a2 = r := kb_inj (ea2.symm.trans er) (by omega) (by omega)
    subst er2
    have hl := kt_an_le T h3
    have hl2 := kt_an_le T g3
    have hsl := hsb l (by omega)
    have hsl2 := hsb l2 (by omega)
    rw [nI_pred]
    refine br_f (nI_pos (by omega)) ⟨pk_in m 18 (by omega), ?_⟩
    intro x5 e5
    have e5' : x5 = nI (P m) := by rw [e5, nI_clamp (n := m) (by omega), p2]
    subst e5'
    rw [nI_clamp (n := P m) (by omega)]
    refine ⟨pk_in (P m) 17 (by omega), ?_⟩
    intro x6 e6
    have e6' : x6 = nI (P (m + 1)) := by rw [e6, p1]
    subst e6'
    rw [nI_clamp (n := P (m + 1)) (by omega), el, el2, nI_clamp (n := l) (by omega), nI_clamp (n := l2) (by omega), hs l (by omega), hs l2 (by omega)]
    refine ⟨pk_in (P (m + 1)) 17 (by omega), pk_in l2 17 (by omega), pk_in (P m) 17 (by omega), pk_in l 17 (by omega), ?_⟩
    have tail : ∀ (lb' : Nat → Int32), kt_FI n c tp sm (upd an (P m) (nI a2)) lb' → wX_evaluate_136 post (wX_evaluate_72 post (nI (P 0)) f_roots f_fresh f_reached N) (nI (P 0)) (nI m) (nI (P m)) (nI (P (m + 1))) f_roots f_fresh f_reached a_sizeOf a_refers a_number a_order a_treeParent a_stack a_untried a_semi a_idom an lb' a_path a_bucketHead a_bucketNext a_keeperOf a_depthOf a_heldBy a_first a_last := by
      intro lb' FI'
      refine And.intro (pk_in (P (m + 1)) 17 (by omega)) (And.intro (pk_in (P m) 17 (by omega)) ?_)
      intro an1 e1 x4 e4
      have e1' : an1 = upd an (P m) (nI a2) := by rw [e1, nI_clamp (n := P m) (by omega), nI_clamp (n := P (m + 1)) (by omega), er]
      have e4' : x4 = nI m - 1 := by rw [e4, Int32.sub_eq_add_neg]
      subst e1' e4'
      refine ih (by omega) N (by omega) (upd an (P m) (nI a2)) lb' FI' (fun j hj => ?_) (fun i j h h' => hd i j h (by omega)) ⟨a2, pk_us, hr⟩ (fun j hj => hc j (by omega)) K
      have := hd j m hj (by omega)
      rw [pk_un (by omega)]
      exact hP j (by omega)
    refine pk_le (sm l) (sm l2) (fun hle => ?_) (fun hlt => ?_)
    · exact tail lb (ke_fi T FI hm0.1 h1 h2 h3 h4 h5 g1 g2 g3 g4 g5 (Or.inl rfl) (Nat.le_refl _) hle el (fun _ _ => rfl))
    · refine ⟨pk_in (P (m + 1)) 17 (by omega), pk_in (P m) 17 (by omega), ?_⟩
      refine nm_e ?_
      exact tail (upd lb (P m) (nI l2)) (ke_fi T FI hm0.1 h1 h2 h3 h4 h5 g1 g2 g3 g4 g5 (Or.inr rfl) (by omega) (Nat.le_refl _) pk_us (fun j hj => pk_un hj))
theorem ke_23 {post : Int32 → SX → Prop} {P : Nat → Nat} (T : kt_Tr tp) (hn : n ≤ 17) (hs : ∀ i, i < n → a_semi i = nI (sm i)) (hsb : ∀ i, i < n → sm i < 17) (FI : kt_FI n c tp sm a_ancestor a_label) (hP : ∀ k, P (k + 1) = (a_ancestor (P k)).toNatClampNeg)
    (K : ∀ (an' lb' pa' : Nat → Int32) (l : Nat), kt_FI n c tp sm an' lb' → l < n → c ≤ l → kt_an tp l (P 0) → (∀ y, kt_an tp y (P 0) → c ≤ y → sm l ≤ sm y) → post (nI l) (f_roots, f_fresh, f_reached, a_sizeOf, a_refers, a_number, a_order, a_treeParent, a_stack, a_untried, a_semi, a_idom, an', lb', pa', a_bucketHead, a_bucketNext, a_keeperOf, a_depthOf, a_heldBy, a_first, a_last)) :
    ∀ N k pa, P k < N → k + P k ≤ 16 → (∀ j, j < k → a_ancestor (P j) = nI (P (j + 1)) ∧ pa j = nI (P j)) → (∀ i j, i < j → j ≤ k → P j < P i) → (∀ j, j ≤ k → c ≤ P j ∧ P j < n) →
    wX_evaluate_23 post (nI (P 0)) f_roots f_fresh f_reached N (nI k) (nI (P k)) (nI k) a_sizeOf a_refers a_number a_order a_treeParent a_stack a_untried a_semi a_idom a_ancestor a_label pa a_bucketHead a_bucketNext a_keeperOf a_depthOf a_heldBy a_first a_last := by
  intro N
  induction N with
  | zero => intro k pa h; omega
  | succ N ih =>
    intro k pa hN hk hp hd hc
    have h0 := hc k (Nat.le_refl k)
    obtain ⟨a, l, ea, el, h1, h2, h3, h4, h5⟩ := (FI (P k) h0.2).2 h0.1
    have eP : P (k + 1) = a := by rw [hP k, ea, nI_clamp (by omega)]
    refine br_f (nI_ge (b := 17) (by omega) (by decide)) ⟨pk_in (P k) 17 (by omega), ?_⟩
    rw [nI_clamp (n := P k) (by omega), ea, nI_clamp (n := a) (by omega)]
    refine ⟨pk_in a 17 (by omega), ?_⟩
    rcases Nat.lt_or_ge a c with hac | hac
    · rw [((FI a (by omega)).1 hac).1]
      refine br_t kb_m1 (nm_e ?_)
      refine ⟨k + 1, ?_⟩
      exact ke_72 (a_path := pa) T hn hs hsb k (by omega) (k + 1) (by omega) a_ancestor a_label FI hp hd ⟨a, ea, hac⟩ hc (fun an' lb' l x1 x2 x3 x4 x5 => K an' lb' pa l x1 x2 x3 x4 x5)
    · obtain ⟨b, l2, eb, _, _, hb, _⟩ := (FI a (by omega)).2 hac
      rw [eb]
      refine br_f (nI_pos (by omega)) ⟨pk_in k 18 (by omega), ?_⟩
      intro pa' epa x2 ex2
      refine ⟨pk_in (P k) 17 (by omega), ?_⟩
      intro x3 ex3 x4 ex4
      have q1 : pa' = upd pa k (nI (P k)) := by rw [epa, nI_clamp (n := k) (by omega)]
      have q2 : x2 = nI (k + 1) := by rw [ex2, nI_1]
      have q3 : x3 = nI (P (k + 1)) := by rw [ex3, eP]
      have q4 : x4 = nI (k + 1) := by rw [ex4, nI_1]
      subst q1 q2 q3 q4
      refine ih (k + 1) (upd pa k (nI (P k))) (by omega) (by omega) ?_ ?_ ?_
      · intro j hj
        by_cases e : j = k
        · subst e; exact ⟨by rw [ea, eP], pk_us⟩
        · rw [pk_un e]; exact hp j (by omega)
      · intro i j hij hj
        by_cases e : j = k + 1
        · subst e
          rcases Nat.eq_or_lt_of_le (Nat.le_of_lt_succ hij) with q | q
          · rw [q, eP]; exact h2
          · have := hd i k q (Nat.le_refl _)
            omega
        · exact hd i j hij (by omega)
      · intro j hj
        by_cases e : j = k + 1
        · subst e; rw [eP]; exact ⟨hac, by omega⟩
        · exact hc j (by omega)
/-- evaluate: the vertex of least semi on the linked way above v -/
theorem ke_ev {post : Int32 → SX → Prop} (T : kt_Tr tp) (hn : n ≤ 17) (hs : ∀ i, i < n → a_semi i = nI (sm i)) (hsb : ∀ i, i < n → sm i < 17) (FI : kt_FI n c tp sm a_ancestor a_label) {v : Nat} (hv : v < n)
    (K : ∀ (an' lb' pa' : Nat → Int32) (l : Nat), kt_FI n c tp sm an' lb' → l < n → (v < c → l = v) → (c ≤ v → c ≤ l ∧ kt_an tp l v ∧ ∀ y, kt_an tp y v → c ≤ y → sm l ≤ sm y) → post (nI l) (f_roots, f_fresh, f_reached, a_sizeOf, a_refers, a_number, a_order, a_treeParent, a_stack, a_untried, a_semi, a_idom, an', lb', pa', a_bucketHead, a_bucketNext, a_keeperOf, a_depthOf, a_heldBy, a_first, a_last)) :
    wpX_evaluate post (f_roots, f_fresh, f_reached, a_sizeOf, a_refers, a_number, a_order, a_treeParent, a_stack, a_untried, a_semi, a_idom, a_ancestor, a_label, a_path, a_bucketHead, a_bucketNext, a_keeperOf, a_depthOf, a_heldBy, a_first, a_last) (nI v) := by
  refine And.intro (pk_in v 17 (by omega)) ?_
  rw [nI_clamp (n := v) (by omega)]
  rcases Nat.lt_or_ge v c with h | h
  · rw [((FI v hv).1 h).1]
    refine br_f (by decide) ⟨pk_in v 17 (by omega), ?_⟩
    rw [((FI v hv).1 h).2]
    exact K a_ancestor a_label a_path v FI hv (fun _ => rfl) (fun q => by omega)
  · obtain ⟨a, l, ea, _, _, h2, _⟩ := (FI v hv).2 h
    rw [ea]
    refine br_t (nI_pos' (by omega)) ⟨v + 1, ?_⟩
    exact ke_23 (P := fun k => kt_it (fun j => (a_ancestor j).toNatClampNeg) k v) T hn hs hsb FI (fun k => kt_it_s _ k v) (fun an' lb' pa' l x1 x2 x3 x4 x5 => K an' lb' pa' l x1 x2 (fun q => by omega) (fun _ => ⟨x3, x4, x5⟩)) (v + 1) 0 a_path (Nat.lt_succ_self v) (by show 0 + v ≤ 16; omega) (fun j hj => by omega) (fun i j hij hj => by omega) (fun j hj => by
      have e : j = 0 := by omega
      subst e
      exact ⟨h, hv⟩)
end
end
section
/-! 04: findSemi, emptyBucket -/
section
variable {f_roots f_fresh f_reached : Int32} {a_sizeOf a_refers a_number a_order a_treeParent a_stack a_untried a_semi a_idom a_ancestor a_label a_path a_bucketHead a_bucketNext a_keeperOf a_depthOf a_heldBy a_first a_last : Nat → Int32}
variable {E : Nat → Nat → Prop} {tp sm ord : Nat → Nat} {n w : Nat}
theorem kf_9 {post : SX → Prop} (G : kt_G E tp n) (hn : n ≤ 17) (hw0 : 0 < w) (hw : w < n) (ho : ∀ i, i < n → a_order i = nI (ord i)) (hob : ∀ i, i < n → ord i < 17) (hE : ∀ i, i < n → (E i w ↔ bt (a_refers (ord i)) (ord w) = true)) (hlo : ∀ i, i < w → sm i = i) (hhi : ∀ i, w < i → i < n → kt_Sd E (sm i) i)
    (K : ∀ (se an' lb' pa' : Nat → Int32) (x : Nat), (∀ i, i < n → se i = nI (kt_up sm w x i)) → kt_Sd E x w → kt_FI n (w + 1) tp sm an' lb' → post (f_roots, f_fresh, nI n, a_sizeOf, a_refers, a_number, a_order, a_treeParent, a_stack, a_untried, se, a_idom, an', lb', pa', a_bucketHead, a_bucketNext, a_keeperOf, a_depthOf, a_heldBy, a_first, a_last)) :
    ∀ N v, v ≤ n → n - v < N → ∀ (se an lb pa : Nat → Int32) (x : Nat), (∀ i, i < n → se i = nI (kt_up sm w x i)) → kt_FI n (w + 1) tp sm an lb → x ≤ w → (x = w ∨ kt_sp E x w) → (∀ v', v' < v → E v' w → (v' < w → x ≤ v') ∧ (w < v' → ∀ y, kt_an tp y v' → w < y → x ≤ sm y)) →
    wX_findSemi_9 post (nI w) (nI (ord w)) N (nI v) f_roots f_fresh (nI n) a_sizeOf a_refers a_number a_order a_treeParent a_stack a_untried se a_idom an lb pa a_bucketHead a_bucketNext a_keeperOf a_depthOf a_heldBy a_first a_last := by
  intro N
  induction N with
  | zero => intro v _ h; omega
  | succ N ih =>
    intro v hvn hN se an lb pa x hs FI hx hxs hc
    rcases Nat.eq_or_lt_of_le hvn with e | e
    · subst e
      refine br_t (nI_le (Nat.le_refl v) (by omega)) ?_
      refine K se an lb pa x hs ?_ FI
      have hle : ∀ y, kt_sp E y w → x ≤ y := by
        intro y hy
        rcases kt_sp_d G hy with h | ⟨u, z, h1, h2, h3, h4⟩
        · rcases Nat.lt_or_ge y w with q | q
          · exact (hc y (kt_gR G h).1 h).1 q
          · omega
        · have hz := (kt_gR G h3).1
          have huz := kt_an_le G.1 h2
          have h5 := (hc z hz h3).2 (by omega) u h2 h1
          have h6 := (hhi u h1 (by omega)).2 y h4
          omega
      have h7 := hle (tp w) (kt_sp_e (kt_gP G hw0 hw))
      have h8 := G.1.2 w hw0
      rcases hxs with q | q
      · omega
      · exact ⟨q, hle⟩
    · have hb := hob v e
      have hbw := hob w hw
      refine br_f (nI_ge e (by omega)) ⟨pk_in v 17 (by omega), ?_⟩
      rw [nI_clamp (n := v) (by omega), ho v e, nI_clamp (n := ord v) (by omega)]
      refine ⟨pk_in (ord v) 17 (by omega), ?_⟩
      rw [kb_bit _ (by omega : ord w < 32)]
      by_cases hbit : bt (a_refers (ord v)) (ord w) = true
      · have hEv := (hE v e).mpr hbit
        have hsb : ∀ i, i < n → kt_up sm w x i < 17 := by
          intro i hi
          by_cases q : i = w
          · rw [q, kt_us]; omega
          · rw [kt_un q]
            rcases Nat.lt_or_ge i w with q2 | q2
            · rw [hlo i q2]; omega
            · have := kt_Sd_lt G (hhi i (by omega) hi) (by omega) hi
              omega
        have FI2 : kt_FI n (w + 1) tp (kt_up sm w x) an lb := kt_FI_cg G.1 FI (fun i hi _ => (kt_un (by omega)).symm)
        refine br_f (by rw [hbit]; decide) ?_
        refine ke_ev (c := w + 1) (tp := tp) (sm := kt_up sm w x) G.1 hn hs hsb FI2 e ?_
        intro an' lb' pa' u FI3 hu hlow hhigh
        have FI4 : kt_FI n (w + 1) tp sm an' lb' := kt_FI_cg G.1 FI3 (fun i hi _ => kt_un (by omega))
        have hsu := hsb u hu
        have esw : kt_up sm w x w = x := kt_us
        -- what the value at u is
        have hval : (v = w → u = w) ∧ (v < w → kt_up sm w x u = v) ∧ (w < v → kt_sp E (kt_up sm w x u) w ∧ ∀ y, kt_an tp y v → w < y → kt_up sm w x u ≤ sm y) := by
          refine ⟨fun q => ?_, fun q => ?_, fun q => ?_⟩
          · rw [hlow (by omega), q]
          · rw [hlow (by omega), kt_un (by omega), hlo v q]
          · obtain ⟨h1, h2, h3⟩ := hhigh (by omega)
            rw [kt_un (by omega)]
            refine ⟨kt_sp_t G (hhi u (by omega) hu).1 (by omega) h2 hEv, fun y hy hwy => ?_⟩
            have := h3 y hy (by omega)
            rw [kt_un (by omega), kt_un (by omega)] at this
            exact this
        refine And.intro (pk_in u 17 (by omega)) (And.intro (pk_in w 17 (by omega)) ?_)
        rw [nI_clamp (n := w) (by omega), nI_clamp (n := u) (by omega), hs w hw, hs u hu, esw]
        refine pk_le x (kt_up sm w x u) (fun hle => ?_) (fun hlt => ?_)
        · refine nm_r (nI_1 v) ?_
          refine ih (v + 1) (by omega) (by omega) se an' lb' pa' x hs FI4 hx hxs ?_
          intro v' hv' hE'
          rcases Nat.eq_or_lt_of_le (Nat.le_of_lt_succ hv') with q | q
          · subst q
            refine ⟨fun q => ?_, fun q y hy hwy => ?_⟩
            · have := hval.2.1 q
              omega
            · have := (hval.2.2 q).2 y hy hwy
              omega
          · exact hc v' q hE'
        · refine ⟨pk_in u 17 (by omega), pk_in w 17 (by omega), ?_⟩
          refine nm_e (nm_r (nI_1 v) ?_)
          have hne : v ≠ w := by
            intro q
            have := hval.1 q
            rw [this, esw] at hlt
            omega
          refine ih (v + 1) (by omega) (by omega) (upd se w (nI (kt_up sm w x u))) an' lb' pa' (kt_up sm w x u) ?_ FI4 (by omega) ?_ ?_
          · intro i hi
            by_cases q : i = w
            · rw [q, pk_us, kt_us]
            · rw [pk_un q, kt_un q, hs i hi, kt_un q]
          · rcases Nat.lt_or_ge v w with q | q
            · right
              rw [hval.2.1 q]
              exact kt_sp_e hEv
            · exact Or.inr (hval.2.2 (by omega)).1
          · intro v' hv' hE'
            rcases Nat.eq_or_lt_of_le (Nat.le_of_lt_succ hv') with q | q
            · subst q
              refine ⟨fun q => ?_, fun q y hy hwy => ?_⟩
              · have := hval.2.1 q
                omega
              · exact (hval.2.2 q).2 y hy hwy
            · have := hc v' q hE'
              refine ⟨fun q => ?_, fun q y hy hwy => ?_⟩
              · have := this.1 q
                omega
              · have := this.2 q y hy hwy
                omega
      · have hf : bt (a_refers (ord v)) (ord w) = false := by
          cases h : bt (a_refers (ord v)) (ord w)
          · rfl
          · exact absurd h hbit
        refine br_t hf (nm_r (nI_1 v) ?_)
        refine ih (v + 1) (by omega) (by omega) se an lb pa x hs FI hx hxs ?_
        intro v' hv' hE'
        rcases Nat.eq_or_lt_of_le (Nat.le_of_lt_succ hv') with q | q
        · subst q
          exact absurd ((hE v' e).mp hE') hbit
        · exact hc v' q hE'
theorem kf_fs {post : SX → Prop} (G : kt_G E tp n) (hn : n ≤ 17) (hw0 : 0 < w) (hw : w < n) (ho : ∀ i, i < n → a_order i = nI (ord i)) (hob : ∀ i, i < n → ord i < 17) (hE : ∀ i, i < n → (E i w ↔ bt (a_refers (ord i)) (ord w) = true)) (hs : ∀ i, i < n → a_semi i = nI (sm i)) (hlo : ∀ i, i < w + 1 → sm i = i) (hhi : ∀ i, w + 1 ≤ i → i < n → kt_Sd E (sm i) i) (FI : kt_FI n (w + 1) tp sm a_ancestor a_label)
    (K : ∀ (se an' lb' pa' : Nat → Int32) (x : Nat), (∀ i, i < n → se i = nI (kt_up sm w x i)) → kt_Sd E x w → kt_FI n (w + 1) tp sm an' lb' → post (f_roots, f_fresh, nI n, a_sizeOf, a_refers, a_number, a_order, a_treeParent, a_stack, a_untried, se, a_idom, an', lb', pa', a_bucketHead, a_bucketNext, a_keeperOf, a_depthOf, a_heldBy, a_first, a_last)) :
    wpX_findSemi post (f_roots, f_fresh, nI n, a_sizeOf, a_refers, a_number, a_order, a_treeParent, a_stack, a_untried, a_semi, a_idom, a_ancestor, a_label, a_path, a_bucketHead, a_bucketNext, a_keeperOf, a_depthOf, a_heldBy, a_first, a_last) (nI w) := by
  refine And.intro (pk_in w 17 (by omega)) ?_
  refine nm_r (e' := nI (ord w)) (by rw [nI_clamp (n := w) (by omega), ho w hw]) ?_
  refine ⟨n + 1, ?_⟩
  refine kf_9 G hn hw0 hw ho hob hE (fun i hi => hlo i (by omega)) (fun i hi hin => hhi i hi hin) K (n + 1) 0 (by omega) (by omega) a_semi a_ancestor a_label a_path w ?_ FI (Nat.le_refl w) (Or.inl rfl) (fun v' hv' => by omega)
  intro i hi
  rw [hs i hi]
  by_cases q : i = w
  · rw [q, kt_us, hlo w (by omega)]
  · rw [kt_un q]
end
/-- what idom holds for v once its bucket was emptied -/
def kt_RJ (c : Nat) (tp sm : Nat → Nat) (v : Nat) (x : Int32) : Prop := ∃ u, u < 17 ∧ x = nI u ∧ kt_RI tp sm v u ∧ ∀ y, kt_an tp y v → sm v < y → c ≤ y
theorem kt_RJ_cg {c c' n : Nat} {tp f g : Nat → Nat} {v : Nat} {x : Int32} (T : kt_Tr tp) (h : kt_RJ c tp f v x) (hcc : c' ≤ c) (hv : c ≤ v) (hn : v < n) (e : ∀ i, c ≤ i → i < n → f i = g i) : kt_RJ c' tp g v x := by
  obtain ⟨u, h1, h2, h3, h4⟩ := h
  have ev := e v hv hn
  refine ⟨u, h1, h2, ?_, fun y hy hl => by rw [← ev] at hl; have := h4 y hy hl; omega⟩
  have ey : ∀ y, kt_an tp y v → f v < y → f y = g y := fun y hy hl => by
    have := kt_an_le T hy
    exact e y (h4 y hy hl) (by omega)
  rcases h3 with ⟨a, b⟩ | ⟨a, b, d, m⟩
  · left
    rw [← ev]
    exact ⟨a, fun y hy hl => by rw [← ey y hy hl]; exact b y hy hl⟩
  · right
    have eu := ey u a b
    rw [← ev, ← eu]
    exact ⟨a, b, d, fun y hy hl => by rw [← ey y hy hl]; exact m y hy hl⟩
section
variable {f_roots f_fresh f_reached : Int32} {a_sizeOf a_refers a_number a_order a_treeParent a_stack a_untried a_semi a_idom a_ancestor a_label a_path a_bucketHead a_bucketNext a_keeperOf a_depthOf a_heldBy a_first a_last : Nat → Int32}
variable {tp sm : Nat → Nat} {n c p : Nat} {B : Nat → Prop}
theorem kg_9 {post : SX → Prop} (T : kt_Tr tp) (hn : n ≤ 17) (hp : p < c) (hcn : c ≤ n) (hs : ∀ i, i < n → a_semi i = nI (sm i)) (hsb : ∀ i, i < n → sm i < 17) (hB : ∀ v, B v → c ≤ v ∧ v < n) (hnx : ∀ v, B v → kt_Ls (a_bucketNext v) (fun v' => B v' ∧ sm v' = sm v ∧ v < v')) (hlk : ∀ v, B v → sm v = p → ∀ y, kt_an tp y v → p < y → c ≤ y)
    (K : ∀ (id' an' lb' pa' : Nat → Int32), (∀ v, c ≤ v → v < n → (¬ B v ∨ sm v = p) → kt_RJ c tp sm v (id' v)) → kt_FI n c tp sm an' lb' → post (f_roots, f_fresh, f_reached, a_sizeOf, a_refers, a_number, a_order, a_treeParent, a_stack, a_untried, a_semi, id', an', lb', pa', upd a_bucketHead p (-1), a_bucketNext, a_keeperOf, a_depthOf, a_heldBy, a_first, a_last)) :
    ∀ N lo k, k < lo → lo ≤ 17 → 17 - lo < N → ∀ (x2 : Int32) (id an lb pa : Nat → Int32), kt_Ls x2 (fun v => B v ∧ sm v = p ∧ lo ≤ v) → (∀ v, c ≤ v → v < n → (¬ B v ∨ (sm v = p ∧ v < lo)) → kt_RJ c tp sm v (id v)) → kt_FI n c tp sm an lb →
    wX_emptyBucket_9 post (nI p) N x2 (nI k) f_roots f_fresh f_reached a_sizeOf a_refers a_number a_order a_treeParent a_stack a_untried a_semi id an lb pa a_bucketHead a_bucketNext a_keeperOf a_depthOf a_heldBy a_first a_last := by
  intro N
  induction N with
  | zero => intro lo k _ _ h; omega
  | succ N ih =>
    intro lo k hk hlo hN x2 id an lb pa hL hI FI
    refine br_f (nI_ge (b := 17) (by omega) (by decide)) ?_
    rcases hL with ⟨e, hnone⟩ | ⟨m, e, ⟨m1, m2, m3⟩, m4⟩
    · rw [e]
      refine br_t kb_m1 ⟨pk_in p 17 (by omega), ?_⟩
      rw [nI_clamp (n := p) (by omega)]
      refine nm_e ?_
      refine K id an lb pa (fun v hv hvn hh => ?_) FI
      rcases hh with q | q
      · exact hI v hv hvn (Or.inl q)
      · by_cases qb : B v
        · refine hI v hv hvn (Or.inr ⟨q, ?_⟩)
          rcases Nat.lt_or_ge v lo with z | z
          · exact z
          · exact absurd ⟨qb, q, z⟩ (hnone v)
        · exact hI v hv hvn (Or.inl qb)
    · have hBm := hB m m1
      rw [e]
      refine br_f (nI_pos (by omega)) ?_
      refine ke_ev (c := c) (tp := tp) (sm := sm) T hn hs hsb FI hBm.2 ?_
      intro an' lb' pa' u FI' hu _ hhi
      obtain ⟨u1, u2, u3⟩ := hhi hBm.1
      have hsu := hsb u hu
      have hsm := hsb m hBm.2
      refine And.intro (pk_in u 17 (by omega)) (And.intro (pk_in m 17 (by omega)) ?_)
      rw [nI_clamp (n := m) (by omega), nI_clamp (n := u) (by omega), hs m hBm.2, hs u hu]
      have tail : ∀ z, z < 17 → kt_RI tp sm m z → wX_emptyBucket_53 post (wX_emptyBucket_9 post (nI p) N) (nI p) (nI m) (nI k) (nI z) (nI m) f_roots f_fresh f_reached a_sizeOf a_refers a_number a_order a_treeParent a_stack a_untried a_semi id an' lb' pa' a_bucketHead a_bucketNext a_keeperOf a_depthOf a_heldBy a_first a_last := by
        intro z hz hR
        refine And.intro (pk_in m 17 (by omega)) ?_
        rw [nI_clamp (n := m) (by omega)]
        refine nm_e (And.intro (pk_in m 17 (by omega)) (nm_e (nm_r (nI_1 k) ?_)))
        refine ih (m + 1) (k + 1) (by omega) (by omega) (by omega) (a_bucketNext m) (upd id m (nI z)) an' lb' pa' ?_ ?_ FI'
        · refine kt_Ls_cg (fun v => ?_) (hnx m m1)
          rw [m2]
          exact Iff.rfl
        · intro v hv hvn hh
          by_cases q : v = m
          · subst q
            rw [pk_us]
            exact ⟨z, hz, rfl, hR, fun y hy hl => hlk v m1 m2 y hy (by omega)⟩
          · rw [pk_un q]
            refine hI v hv hvn ?_
            rcases hh with h | ⟨h1, h2⟩
            · exact Or.inl h
            · by_cases qb : B v
              · refine Or.inr ⟨h1, ?_⟩
                rcases Nat.lt_or_ge v lo with z | z
                · exact z
                · have := m4 v ⟨qb, h1, z⟩
                  omega
              · exact Or.inl qb
      refine pk_le (sm m) (sm u) (fun hle => ?_) (fun hlt => ?_)
      · refine tail p (by omega) (Or.inl ⟨m2.symm, fun y hy hl => ?_⟩)
        have := u3 y hy (hlk m m1 m2 y hy (by omega))
        omega
      · refine tail u (by omega) (Or.inr ⟨u2, by omega, hlt, fun y hy hl => ?_⟩)
        exact u3 y hy (hlk m m1 m2 y hy (by omega))
theorem kg_eb {post : SX → Prop} (T : kt_Tr tp) (hn : n ≤ 17) (hp : p < c) (hcn : c ≤ n) (hs : ∀ i, i < n → a_semi i = nI (sm i)) (hsb : ∀ i, i < n → sm i < 17) (hB : ∀ v, B v → c ≤ v ∧ v < n) (hhd : kt_Ls (a_bucketHead p) (fun v => B v ∧ sm v = p)) (hnx : ∀ v, B v → kt_Ls (a_bucketNext v) (fun v' => B v' ∧ sm v' = sm v ∧ v < v')) (hlk : ∀ v, B v → sm v = p → ∀ y, kt_an tp y v → p < y → c ≤ y) (hI : ∀ v, c ≤ v → v < n → ¬ B v → kt_RJ c tp sm v (a_idom v)) (FI : kt_FI n c tp sm a_ancestor a_label)
    (K : ∀ (id' an' lb' pa' : Nat → Int32), (∀ v, c ≤ v → v < n → (¬ B v ∨ sm v = p) → kt_RJ c tp sm v (id' v)) → kt_FI n c tp sm an' lb' → post (f_roots, f_fresh, f_reached, a_sizeOf, a_refers, a_number, a_order, a_treeParent, a_stack, a_untried, a_semi, id', an', lb', pa', upd a_bucketHead p (-1), a_bucketNext, a_keeperOf, a_depthOf, a_heldBy, a_first, a_last)) :
    wpX_emptyBucket post (f_roots, f_fresh, f_reached, a_sizeOf, a_refers, a_number, a_order, a_treeParent, a_stack, a_untried, a_semi, a_idom, a_ancestor, a_label, a_path, a_bucketHead, a_bucketNext, a_keeperOf, a_depthOf, a_heldBy, a_first, a_last) (nI p) := by
  refine And.intro (pk_in p 17 (by omega)) ?_
  rw [nI_clamp (n := p) (by omega)]
  refine nm_e ⟨18, ?_⟩
  refine kg_9 (B := B) (sm := sm) (c := c) T hn hp hcn hs hsb hB hnx hlk K 18 1 0 (by omega) (by omega) (by omega) (a_bucketHead p) a_idom a_ancestor a_label a_path ?_ ?_ FI
  · refine kt_Ls_cg (fun v => ?_) hhd
    exact ⟨fun h => ⟨h.1, h.2, by have := hB v h.1; omega⟩, fun h => ⟨h.1, h.2.1⟩⟩
  · intro v hv hvn hh
    rcases hh with h | ⟨_, h⟩
    · exact hI v hv hvn h
    · omega
end
end
section
/-! 05: findDominators -/
def kt_MI (E : Nat → Nat → Prop) (tp : Nat → Nat) (n c : Nat) (sm : Nat → Nat) (B : Nat → Prop) (se id an lb bh bn : Nat → Int32) : Prop :=
  (∀ i, i < n → se i = nI (sm i)) ∧ (∀ v, v < c → sm v = v) ∧ (∀ v, c ≤ v → v < n → kt_Sd E (sm v) v) ∧ kt_FI n c tp sm an lb ∧ (∀ v, B v → c ≤ v ∧ v < n) ∧ (∀ p, p < n → kt_Ls (bh p) (fun v => B v ∧ sm v = p)) ∧ (∀ v, B v → kt_Ls (bn v) (fun v' => B v' ∧ sm v' = sm v ∧ v < v')) ∧ (∀ v, c ≤ v → v < n → ¬ B v → kt_RJ c tp sm v (id v)) ∧ (∀ v, B v → ∃ u, kt_an tp u v ∧ sm v < u ∧ u < c)
section
variable {f_roots f_fresh f_reached : Int32} {a_sizeOf a_refers a_number a_order a_treeParent a_stack a_untried a_semi a_idom a_ancestor a_label a_path a_bucketHead a_bucketNext a_keeperOf a_depthOf a_heldBy a_first a_last : Nat → Int32}
variable {E : Nat → Nat → Prop} {tp ord : Nat → Nat} {n : Nat}
theorem kd_126 {post : SX → Prop} {sm : Nat → Nat} (G : kt_G E tp n) (hn : n ≤ 17) (hs : ∀ i, i < n → a_semi i = nI (sm i)) (S : ∀ v, 0 < v → v < n → kt_Sd E (sm v) v)
    (K : ∀ (id : Nat → Int32) (I : Nat → Nat), kt_Tr I → (∀ v, 0 < v → v < n → id v = nI (I v)) → (∀ v, v < n → ∀ d, ¬ kt_av E d v ↔ kt_an I d v) → post (f_roots, f_fresh, nI n, a_sizeOf, a_refers, a_number, a_order, a_treeParent, a_stack, a_untried, a_semi, id, a_ancestor, a_label, a_path, a_bucketHead, a_bucketNext, a_keeperOf, a_depthOf, a_heldBy, a_first, a_last)) :
    ∀ N w, 0 < w → w ≤ n → n - w < N → ∀ id : Nat → Int32, (∀ v, 0 < v → v < w → ∃ j, id v = nI j ∧ kt_Dm E v j) → (∀ v, w ≤ v → v < n → ∃ u, u < 17 ∧ id v = nI u ∧ kt_RI tp sm v u) →
    wX_findDominators_126 post f_roots f_fresh (nI n) N (nI w) a_sizeOf a_refers a_number a_order a_treeParent a_stack a_untried a_semi id a_ancestor a_label a_path a_bucketHead a_bucketNext a_keeperOf a_depthOf a_heldBy a_first a_last := by
  intro N
  induction N with
  | zero => intro w _ _ h; omega
  | succ N ih =>
    intro w hw0 hwn hN id hlo hhi
    rcases Nat.eq_or_lt_of_le hwn with e | e
    · subst e
      refine br_t (nI_le (Nat.le_refl w) (by omega)) ?_
      have hI : ∀ v, 0 < v → v < w → id v = nI (id v).toNatClampNeg ∧ kt_Dm E v (id v).toNatClampNeg := by
        intro v h0 hv
        obtain ⟨j, e, hj⟩ := hlo v h0 hv
        have hjv := hj.1
        rw [e, nI_clamp (n := j) (by omega)]
        exact ⟨rfl, hj⟩
      have TI : kt_Tr (fun v => if 0 < v ∧ v < w then (id v).toNatClampNeg else 0) := by
        refine ⟨if_neg (by omega), fun x hx => ?_⟩
        by_cases q : 0 < x ∧ x < w
        · show (if 0 < x ∧ x < w then (id x).toNatClampNeg else 0) < x
          rw [if_pos q]
          exact (hI x q.1 q.2).2.1
        · show (if 0 < x ∧ x < w then (id x).toNatClampNeg else 0) < x
          rw [if_neg q]; exact hx
      refine K id (fun v => if 0 < v ∧ v < w then (id v).toNatClampNeg else 0) TI (fun v h0 hv => ?_) ?_
      · rw [if_pos ⟨h0, hv⟩]; exact (hI v h0 hv).1
      · refine kt_fin TI (fun v h0 hv => ?_)
        rw [if_pos ⟨h0, hv⟩]; exact (hI v h0 hv).2
    · obtain ⟨u, hu, eu, hR⟩ := hhi w (Nat.le_refl w) e
      have Sw := S w hw0 e
      have lt := kt_Sd_lt G Sw hw0 e
      refine br_f (nI_ge e (by omega)) ⟨pk_in w 17 (by omega), pk_in w 17 (by omega), ?_⟩
      rw [nI_clamp (n := w) (by omega), eu, hs w e]
      refine pk_eq u (sm w) (fun q => ?_) (fun q => ?_)
      · refine nm_r (nI_1 w) ?_
        refine ih (w + 1) (by omega) (by omega) (by omega) id ?_ (fun v hv hvn => hhi v (by omega) hvn)
        intro v h0 hv
        by_cases z : v = w
        · subst z
          refine ⟨u, eu, ?_⟩
          rw [q]
          rcases hR with ⟨_, b⟩ | ⟨_, b, _⟩
          · exact kt_c1 G S hw0 e b
          · omega
        · exact hlo v h0 (by omega)
      · rcases hR with ⟨a, _⟩ | ⟨a, b, d, m⟩
        · exact absurd a q
        · have hle := kt_an_le G.1 a
          have hne : u ≠ w := fun z => by rw [z] at d; omega
          obtain ⟨j, ej, hj⟩ := hlo u (by omega) (by omega)
          have hju := hj.1
          rw [nI_clamp (n := u) (by omega), ej]
          refine ⟨pk_in w 17 (by omega), pk_in u 17 (by omega), pk_in w 17 (by omega), ?_⟩
          refine nm_e (nm_r (nI_1 w) ?_)
          refine ih (w + 1) (by omega) (by omega) (by omega) (upd id w (nI j)) ?_ ?_
          · intro v h0 hv
            by_cases z : v = w
            · subst z
              exact ⟨j, pk_us, kt_c2 G S hw0 e a b d m hj⟩
            · rw [pk_un z]; exact hlo v h0 (by omega)
          · intro v hv hvn
            rw [pk_un (by omega)]
            exact hhi v (by omega) hvn
theorem kd_58 {post : SX → Prop} (G : kt_G E tp n) (hn : n ≤ 17) (ho : ∀ i, i < n → a_order i = nI (ord i)) (hob : ∀ i, i < n → ord i < 17) (hE : ∀ i j, i < n → 0 < j → j < n → (E i j ↔ bt (a_refers (ord i)) (ord j) = true)) (htp : ∀ i, 0 < i → i < n → a_treeParent i = nI (tp i))
    (K : ∀ (sm : Nat → Nat) (B : Nat → Prop) (se id an lb pa bh bn : Nat → Int32), kt_MI E tp n 1 sm B se id an lb bh bn → ∃ N, wX_findDominators_126 post f_roots f_fresh (nI n) N 1 a_sizeOf a_refers a_number a_order a_treeParent a_stack a_untried se id an lb pa bh bn a_keeperOf a_depthOf a_heldBy a_first a_last) :
    ∀ w N, w < n → w < N → ∀ (sm : Nat → Nat) (B : Nat → Prop) (se id an lb pa bh bn : Nat → Int32), kt_MI E tp n (w + 1) sm B se id an lb bh bn →
    wX_findDominators_58 post N (nI w) f_roots f_fresh (nI n) a_sizeOf a_refers a_number a_order a_treeParent a_stack a_untried se id an lb pa bh bn a_keeperOf a_depthOf a_heldBy a_first a_last := by
  intro w
  induction w with
  | zero =>
    intro N _ hN sm B se id an lb pa bh bn M
    obtain ⟨N, rfl⟩ : ∃ N', N = N' + 1 := ⟨N - 1, by omega⟩
    exact br_t (by decide) (K sm B se id an lb pa bh bn M)
  | succ w ih =>
    intro N hw hN sm B se id an lb pa bh bn M
    obtain ⟨N, rfl⟩ : ∃ N', N = N' + 1 := ⟨N - 1, by omega⟩
    obtain ⟨m1, m2, m3, m4, m5, m6, m7, m8, m9⟩ := M
    have T := G.1
    have hpl : tp (w + 1) < w + 1 := T.2 (w + 1) (by omega)
    refine br_f (nI_nle (by omega) (by omega)) ?_
    refine kf_fs (sm := sm) (w := w + 1) G hn (by omega) hw ho hob (fun i hi => hE i (w + 1) hi (by omega) hw) m1 m2 m3 m4 ?_
    intro se' an' lb' pa' x hs' hSd FI'
    have xlt := kt_Sd_lt G hSd (by omega) hw
    have eN : ∀ i, i ≠ w + 1 → kt_up sm (w + 1) x i = sm i := fun i hi => kt_un hi
    have eW : kt_up sm (w + 1) x (w + 1) = x := kt_us
    have hS' : ∀ v, w + 1 ≤ v → v < n → kt_Sd E (kt_up sm (w + 1) x v) v := by
      intro v hv hvn
      by_cases q : v = w + 1
      · rw [q, eW]; exact hSd
      · rw [eN v q]; exact m3 v (by omega) hvn
    have hl' : ∀ v, v < w + 1 → kt_up sm (w + 1) x v = v := fun v hv => by rw [eN v (by omega)]; exact m2 v (by omega)
    have hsb : ∀ i, i < n → kt_up sm (w + 1) x i < 17 := by
      intro i hi
      rcases Nat.lt_or_ge i (w + 1) with q | q
      · rw [hl' i q]; omega
      · have := kt_Sd_lt G (hS' i q hi) (by omega) hi
        omega
    have hBne : ∀ v, B v → v ≠ w + 1 := fun v hv => by have := m5 v hv; omega
    have hB' : ∀ v, (B v ∨ v = w + 1) → w + 1 ≤ v ∧ v < n := by
      intro v hv
      rcases hv with q | q
      · have := m5 v q
        omega
      · omega
    have hhd' : ∀ q, q < n → kt_Ls (upd bh x (nI (w + 1)) q) (fun v => (B v ∨ v = w + 1) ∧ kt_up sm (w + 1) x v = q) := by
      intro q hq
      by_cases z : q = x
      · subst z
        exact Or.inr ⟨w + 1, pk_us, ⟨Or.inr rfl, eW⟩, fun v hv => (hB' v hv.1).1⟩
      · rw [pk_un z]
        refine kt_Ls_cg (fun v => ?_) (m6 q hq)
        constructor
        · intro h
          exact ⟨Or.inl h.1, by rw [eN v (hBne v h.1)]; exact h.2⟩
        · rintro ⟨h | h, h2⟩
          · exact ⟨h, by rw [eN v (hBne v h)] at h2; exact h2⟩
          · rw [h, eW] at h2
            exact absurd h2.symm z
    have hnx' : ∀ v, (B v ∨ v = w + 1) → kt_Ls (upd bn (w + 1) (bh x) v) (fun v' => (B v' ∨ v' = w + 1) ∧ kt_up sm (w + 1) x v' = kt_up sm (w + 1) x v ∧ v < v') := by
      intro v hv
      by_cases z : v = w + 1
      · subst z
        rw [pk_us, eW]
        refine kt_Ls_cg (fun v => ?_) (m6 x (by omega))
        constructor
        · intro h
          have := m5 v h.1
          exact ⟨Or.inl h.1, by rw [eN v (hBne v h.1)]; exact h.2, by omega⟩
        · rintro ⟨h | h, h2, h3⟩
          · exact ⟨h, by rw [eN v (hBne v h)] at h2; exact h2⟩
          · omega
      · have hv' : B v := hv.resolve_right z
        rw [pk_un z, eN v z]
        refine kt_Ls_cg (fun v' => ?_) (m7 v hv')
        constructor
        · intro h
          exact ⟨Or.inl h.1, by rw [eN v' (hBne v' h.1)]; exact h.2.1, h.2.2⟩
        · rintro ⟨h | h, h2, h3⟩
          · exact ⟨h, by rw [eN v' (hBne v' h)] at h2; exact h2, h3⟩
          · have := m5 v hv'
            omega
    have hlk' : ∀ v, (B v ∨ v = w + 1) → kt_up sm (w + 1) x v = tp (w + 1) → ∀ y, kt_an tp y v → tp (w + 1) < y → w + 1 ≤ y := by
      intro v hv _ y hy hl
      rcases Nat.lt_or_ge y (w + 1) with q | q
      · have hv2 := hB' v hv
        have h1 := kt_gC G hy (Nat.le_of_lt q) hv2.1 hv2.2
        have h2 := kt_an_le T (kt_an_lt h1 q)
        omega
      · exact q
    have hI' : ∀ v, w + 1 ≤ v → v < n → ¬ (B v ∨ v = w + 1) → kt_RJ (w + 1) tp (kt_up sm (w + 1) x) v (id v) := by
      intro v hv hvn hh
      have q1 : ¬ B v := fun q => hh (Or.inl q)
      have q2 : v ≠ w + 1 := fun q => hh (Or.inr q)
      exact kt_RJ_cg T (m8 v (by omega) hvn q1) (by omega) (by omega) hvn (fun i hi _ => (eN i (by omega)).symm)
    have FI1 : kt_FI n (w + 1 + 1) tp (kt_up sm (w + 1) x) an' lb' := kt_FI_cg T FI' (fun i hi _ => (eN i (by omega)).symm)
    have FI2 := kt_FI_ln T FI1 (by omega) hw
    refine And.intro (pk_in (w + 1) 17 (by omega)) ?_
    rw [nI_clamp (n := w + 1) (by omega), hs' (w + 1) hw, eW, nI_clamp (n := x) (by omega), htp (w + 1) (by omega) hw]
    refine ⟨pk_in x 17 (by omega), pk_in (w + 1) 17 (by omega), nm_e ⟨pk_in (w + 1) 17 (by omega), pk_in x 17 (by omega), nm_e ⟨pk_in (w + 1) 17 (by omega), pk_in (w + 1) 17 (by omega), nm_e ⟨pk_in (w + 1) 17 (by omega), ?_⟩⟩⟩⟩
    refine kg_eb (B := fun v => B v ∨ v = w + 1) (sm := kt_up sm (w + 1) x) (c := w + 1) (p := tp (w + 1)) T hn hpl (by omega) hs' hsb hB' (hhd' (tp (w + 1)) (by omega)) hnx' hlk' hI' FI2 ?_
    intro id' an2 lb2 pa2 hID FI3
    intro x1 e1
    have e1' : x1 = nI w := by rw [e1]; exact pk_m1 w
    subst e1'
    refine ih N (by omega) (by omega) (kt_up sm (w + 1) x) (fun v => (B v ∨ v = w + 1) ∧ kt_up sm (w + 1) x v ≠ tp (w + 1)) se' id' an2 lb2 pa2 (upd (upd bh x (nI (w + 1))) (tp (w + 1)) (-1)) (upd bn (w + 1) (bh x)) ?_
    refine ⟨hs', hl', hS', FI3, fun v hv => hB' v hv.1, ?_, ?_, ?_, ?_⟩
    · intro p hp
      by_cases z : p = tp (w + 1)
      · subst z
        exact Or.inl ⟨pk_us, fun v hv => hv.1.2 hv.2⟩
      · rw [pk_un z]
        refine kt_Ls_cg (fun v => ?_) (hhd' p hp)
        exact ⟨fun h => ⟨⟨h.1, by rw [h.2]; exact z⟩, h.2⟩, fun h => ⟨h.1.1, h.2⟩⟩
    · intro v hv
      refine kt_Ls_cg (fun v' => ?_) (hnx' v hv.1)
      exact ⟨fun h => ⟨⟨h.1, by rw [h.2.1]; exact hv.2⟩, h.2⟩, fun h => ⟨h.1.1, h.2⟩⟩
    · intro v hv hvn hh
      refine hID v hv hvn ?_
      by_cases z : kt_up sm (w + 1) x v = tp (w + 1)
      · exact Or.inr z
      · exact Or.inl (fun q => hh ⟨q, z⟩)
    · intro v hv
      obtain ⟨hv1, hv2⟩ := hv
      have hvB := hB' v hv1
      have hSv := hS' v hvB.1 hvB.2
      have hlt := kt_Sd_lt G hSv (by omega) hvB.2
      have han := kt_sp_an G hSv.1 hlt
      have hu : ∃ u, kt_an tp u v ∧ kt_up sm (w + 1) x v < u ∧ u < w + 1 + 1 := by
        rcases hv1 with q | q
        · rw [eN v (hBne v q)]; exact m9 v q
        · rw [q, eW]; exact ⟨w + 1, kt_an_rf _, xlt, by omega⟩
      obtain ⟨u, u1, u2, u3⟩ := hu
      rcases Nat.lt_or_ge u (w + 1) with q | q
      · exact ⟨u, u1, u2, q⟩
      · have eu : u = w + 1 := by omega
        subst eu
        have h1 := kt_an_le T (kt_an_lt (kt_an_ch T han u1 (by omega)) u2)
        exact ⟨tp (w + 1), kt_an_tr (kt_an_pa (w + 1)) u1, by omega, hpl⟩
theorem kd_2 {post : SX → Prop} (hn : n ≤ 17)
    (K : ∀ (se lb id an bh : Nat → Int32), (∀ j, j < n → se j = nI j ∧ lb j = nI j ∧ an j = -1 ∧ bh j = -1) → ∃ N, wX_findDominators_58 post N (nI n - 1) f_roots f_fresh (nI n) a_sizeOf a_refers a_number a_order a_treeParent a_stack a_untried se id an lb a_path bh a_bucketNext a_keeperOf a_depthOf a_heldBy a_first a_last) :
    ∀ N i, i ≤ n → n - i < N → ∀ (se lb id an bh : Nat → Int32), (∀ j, j < i → se j = nI j ∧ lb j = nI j ∧ an j = -1 ∧ bh j = -1) →
    wX_findDominators_2 post f_roots f_fresh (nI n) N (nI i) a_sizeOf a_refers a_number a_order a_treeParent a_stack a_untried se id an lb a_path bh a_bucketNext a_keeperOf a_depthOf a_heldBy a_first a_last := by
  intro N
  induction N with
  | zero => intro i _ h; omega
  | succ N ih =>
    intro i hi hN se lb id an bh H
    rcases Nat.eq_or_lt_of_le hi with e | e
    · subst e
      exact br_t (nI_le (Nat.le_refl i) (by omega)) (nm_e (K se lb id an bh H))
    · refine br_f (nI_ge e (by omega)) ⟨pk_in i 17 (by omega), ?_⟩
      rw [nI_clamp (n := i) (by omega)]
      refine nm_e ⟨pk_in i 17 (by omega), nm_e ⟨pk_in i 17 (by omega), nm_e ⟨pk_in i 17 (by omega), nm_e ⟨pk_in i 17 (by omega), nm_e (nm_r (nI_1 i) ?_)⟩⟩⟩⟩
      refine ih (i + 1) (by omega) (by omega) _ _ _ _ _ ?_
      intro j hj
      by_cases z : j = i
      · subst z
        exact ⟨pk_us, pk_us, pk_us, pk_us⟩
      · rw [pk_un z, pk_un z, pk_un z, pk_un z]
        exact H j (by omega)
/-- findDominators: idom is the immediate dominator; I's chains are the dominators -/
theorem kd_fd {post : SX → Prop} (G : kt_G E tp n) (hn : n ≤ 17) (hn1 : 1 ≤ n) (ho : ∀ i, i < n → a_order i = nI (ord i)) (hob : ∀ i, i < n → ord i < 17) (hE : ∀ i j, i < n → 0 < j → j < n → (E i j ↔ bt (a_refers (ord i)) (ord j) = true)) (htp : ∀ i, 0 < i → i < n → a_treeParent i = nI (tp i))
    (K : ∀ (se id an lb pa bh bn : Nat → Int32) (I : Nat → Nat), kt_Tr I → (∀ v, 0 < v → v < n → id v = nI (I v)) → (∀ v, v < n → ∀ d, ¬ kt_av E d v ↔ kt_an I d v) → post (f_roots, f_fresh, nI n, a_sizeOf, a_refers, a_number, a_order, a_treeParent, a_stack, a_untried, se, id, an, lb, pa, bh, bn, a_keeperOf, a_depthOf, a_heldBy, a_first, a_last)) :
    wpX_findDominators post (f_roots, f_fresh, nI n, a_sizeOf, a_refers, a_number, a_order, a_treeParent, a_stack, a_untried, a_semi, a_idom, a_ancestor, a_label, a_path, a_bucketHead, a_bucketNext, a_keeperOf, a_depthOf, a_heldBy, a_first, a_last) := by
  refine Exists.intro (n + 1) ?_
  refine kd_2 hn ?_ (n + 1) 0 (by omega) (by omega) a_semi a_label a_idom a_ancestor a_bucketHead (fun j hj => by omega)
  intro se lb id an bh H
  refine ⟨n + 1, ?_⟩
  obtain ⟨m, rfl⟩ : ∃ m, n = m + 1 := ⟨n - 1, by omega⟩
  rw [nI_pred]
  refine kd_58 (tp := tp) (ord := ord) (E := E) G hn ho hob hE htp ?_ m (m + 1 + 1) (by omega) (by omega) (fun i => i) (fun _ => False) se id an lb a_path bh a_bucketNext ?_
  · intro sm B se id an lb pa bh bn M
    obtain ⟨m1, m2, m3, m4, m5, m6, m7, m8, m9⟩ := M
    refine ⟨m + 1 + 1, ?_⟩
    refine kd_126 (sm := sm) G hn m1 (fun v h0 hv => m3 v h0 hv) (fun id I a b c => K se id an lb pa bh bn I a b c) (m + 1 + 1) 1 (by omega) (by omega) (by omega) id (fun v h0 hv => by omega) ?_
    intro v hv hvn
    have hnb : ¬ B v := by
      intro q
      obtain ⟨u, _, h2, h3⟩ := m9 v q
      omega
    obtain ⟨u, h1, h2, h3, _⟩ := m8 v hv hvn hnb
    exact ⟨u, h1, h2, h3⟩
  · refine ⟨fun i hi => (H i hi).1, fun v _ => rfl, fun v h1 h2 => by omega, ?_, fun v hv => hv.elim, ?_, fun v hv => hv.elim, fun v h1 h2 => by omega, fun v hv => hv.elim⟩
    · intro v hv
      exact ⟨fun _ => ⟨(H v hv).2.2.1, (H v hv).2.1⟩, fun h => by omega⟩
    · intro p hp
      exact Or.inl ⟨(H p hp).2.2.2, fun v hv => hv.1⟩
end
end
section
/-! 06: numberVertices: the depth-first walk -/
def kt_cn (p : Nat → Bool) : Nat → Nat
  | 0 => 0
  | m + 1 => kt_cn p m + (if p m = true then 1 else 0)
theorem kt_cn_cg {p q : Nat → Bool} : ∀ m, (∀ i, i < m → p i = q i) → kt_cn p m = kt_cn q m := by
  intro m
  induction m with
  | zero => intro _; rfl
  | succ m ih =>
    intro h
    show kt_cn p m + _ = kt_cn q m + _
    rw [ih (fun i hi => h i (by omega)), h m (by omega)]
theorem kt_cn_fl {p q : Nat → Bool} {w : Nat} (h1 : p w = true) (h2 : q w = false) : ∀ m, w < m → (∀ i, i < m → i ≠ w → p i = q i) → kt_cn p m = kt_cn q m + 1 := by
  intro m
  induction m with
  | zero => intro h; omega
  | succ m ih =>
    intro hw h
    show kt_cn p m + (if p m = true then 1 else 0) = kt_cn q m + (if q m = true then 1 else 0) + 1
    by_cases e : m = w
    · subst e
      rw [kt_cn_cg m (fun i hi => h i (by omega) (by omega)), h1, h2]
      simp
    · rw [ih (by omega) (fun i hi => h i (by omega)), h m (by omega) e]
      omega
theorem kt_cn_le (p : Nat → Bool) : ∀ m, kt_cn p m ≤ m := by
  intro m
  induction m with
  | zero => exact Nat.le_refl 0
  | succ m ih =>
    show kt_cn p m + (if p m = true then 1 else 0) ≤ m + 1
    by_cases h : p m = true
    · rw [if_pos h]; omega
    · rw [if_neg h]; omega
theorem kt_cn_pos {p : Nat → Bool} {w : Nat} (h : p w = true) : ∀ m, w < m → 1 ≤ kt_cn p m := by
  intro m
  induction m with
  | zero => intro h; omega
  | succ m ih =>
    intro hw
    show 1 ≤ kt_cn p m + (if p m = true then 1 else 0)
    by_cases e : m = w
    · rw [e, if_pos h]; omega
    · have := ih (by omega)
      omega
/-- taking a bit out -/
theorem kb_clr (x : Int32) {w i : Nat} (hw : w < 32) (hi : i < 32) : bt (x &&& (((1 : Int32) <<< (nI w &&& 31)) ^^^ (-1))) i = (bt x i && !decide (i = w)) := by
  rw [b_and, b_xor, b_shl w hw 1 hi, b_m1 i hi, kb_1 (i - w) (by omega)]
  by_cases e : i = w
  · subst e; simp
  · have : (decide (w ≤ i) && decide (i - w = 0)) = false := by
      rw [Bool.and_eq_false_iff]
      by_cases h : w ≤ i
      · exact Or.inr (decide_eq_false (by omega))
      · exact Or.inl (decide_eq_false h)
    rw [this, decide_eq_false e]; rfl
def kn_pc (x : Int32) : Nat := kt_cn (bt x) 16
def kn_ph (un : Nat → Int32) : Nat → Nat
  | 0 => 0
  | d + 1 => kn_ph un d + (kn_pc (un d) + 1)
theorem kn_ph_cg {un un' : Nat → Int32} : ∀ d, (∀ k, k < d → un k = un' k) → kn_ph un d = kn_ph un' d := by
  intro d
  induction d with
  | zero => intro _; rfl
  | succ d ih =>
    intro h
    show kn_ph un d + _ = kn_ph un' d + _
    rw [ih (fun k hk => h k (by omega)), h d (by omega)]
theorem kn_ph_up (un : Nat → Int32) (d : Nat) (x : Int32) : kn_ph (upd un d x) (d + 1) = kn_ph un d + (kn_pc x + 1) := by
  show kn_ph (upd un d x) d + (kn_pc (upd un d x d) + 1) = _
  rw [pk_us, kn_ph_cg d (fun k hk => pk_un (by omega))]
theorem kn_pc_clr {x : Int32} {w : Nat} (hw : w < 16) (h : bt x w = true) : kn_pc x = kn_pc (x &&& (((1 : Int32) <<< (nI w &&& 31)) ^^^ (-1))) + 1 := by
  refine kt_cn_fl h ?_ 16 hw ?_
  · rw [kb_clr x (by omega) (by omega)]; simp
  · intro i hi hne
    rw [kb_clr x (by omega) (by omega), decide_eq_false hne]; simp
theorem kn_lo {post : Int32 → Prop} {x : Int32} (K1 : (∀ i, i < 16 → bt x i = false) → post (-1)) (K2 : ∀ w, w < 16 → bt x w = true → post (nI w)) : wpX_lowestOf post x := by
  have key : ∀ d i, i + d = 16 → (∀ j, j < i → bt x j = false) → wX_lowestOf_2 post x (d + 1) (nI i) := by
    intro d
    induction d with
    | zero =>
      intro i hi h
      have e : i = 16 := by omega
      subst e
      exact br_t (nI_le (a := 16) (Nat.le_refl 16) (by decide)) (K1 h)
    | succ d ih =>
      intro i hi h
      refine br_f (nI_ge (b := 16) (by omega) (by decide)) ?_
      rw [kb_bit x (by omega : i < 32)]
      cases hb : bt x i
      · refine br_t rfl (nm_r (nI_1 i) (ih (i + 1) (by omega) ?_))
        intro j hj
        by_cases e : j = i
        · rw [e]; exact hb
        · exact h j (by omega)
      · exact br_f (by decide) (K2 i (by omega) hb)
  exact Exists.intro 17 (key 16 0 rfl (fun j hj => by omega))
/-- an edge of the graph with the start 16 -/
def kt_ev (R : Nat → Int32) (v w : Nat) : Prop := v < 17 ∧ w < 16 ∧ bt (R v) w = true
def kn_vis (n : Nat) (ord : Nat → Nat) (w : Nat) : Prop := ∃ i, i < n ∧ ord i = w
def kn_A (R : Nat → Int32) (n : Nat) (ord tp : Nat → Nat) (nu oa ta : Nat → Int32) : Prop :=
  1 ≤ n ∧ n ≤ 17 ∧ (∀ i, i < n → oa i = nI (ord i) ∧ ord i < 17 ∧ nu (ord i) = nI i) ∧ ord 0 = 16 ∧ (∀ v, v < 17 → nu v = -1 ∨ kn_vis n ord v) ∧ kt_Tr tp ∧ (∀ j, 0 < j → j < n → ta j = nI (tp j) ∧ kt_ev R (ord (tp j)) (ord j) ∧ kt_an tp (tp j) (j - 1)) ∧ (∀ i j, i < j → j < n → kt_ev R (ord i) (ord j) → kt_an tp i j) ∧ kt_cn (fun v => decide (nu v < 0)) 17 + n = 17
def kn_B (R : Nat → Int32) (n d : Nat) (ord tp st : Nat → Nat) (sk un : Nat → Int32) : Prop :=
  (∀ k, k < d → sk k = nI (ord (st k)) ∧ st k < n ∧ (0 < k → tp (st k) = st (k - 1)) ∧ (∀ w, w < 16 → bt (un k) w = true → bt (R (ord (st k))) w = true) ∧ (∀ w, w < 16 → bt (R (ord (st k))) w = true → bt (un k) w = true ∨ kn_vis n ord w)) ∧ (0 < d → kt_an tp (st (d - 1)) (n - 1)) ∧ (∀ i, i < n → (∀ k, k < d → st k ≠ i) → ∀ w, kt_ev R (ord i) w → kn_vis n ord w)
theorem kn_chn {tp st : Nat → Nat} {d : Nat} (h : ∀ k, k < d → 0 < k → tp (st k) = st (k - 1)) : ∀ e k, k + e < d → kt_an tp (st k) (st (k + e)) := by
  intro e
  induction e with
  | zero => intro k _; exact kt_an_rf _
  | succ e ih =>
    intro k hk
    have h1 := h (k + (e + 1)) hk (by omega)
    have e1 : k + (e + 1) - 1 = k + e := by omega
    rw [e1] at h1
    have h2 := ih k (by omega)
    rw [← h1] at h2
    exact kt_an_up h2
theorem kn_unv {R : Nat → Int32} {n : Nat} {ord tp : Nat → Nat} {nu oa ta : Nat → Int32} (A : kn_A R n ord tp nu oa ta) {r : Nat} (hr : r < 17) (h : ¬ kn_vis n ord r) : nu r = -1 ∧ n < 17 := by
  obtain ⟨a1, a2, a3, a4, a5, a6, a7, a8, a9⟩ := A
  have e := (a5 r hr).resolve_right h
  refine ⟨e, ?_⟩
  have := kt_cn_pos (p := fun v => decide (nu v < 0)) (w := r) (by show decide (nu r < 0) = true; rw [e]; decide) 17 hr
  omega
theorem kn_stA {R : Nat → Int32} {n d : Nat} {ord tp st : Nat → Nat} {nu oa ta sk un : Nat → Int32} {r : Nat} (A : kn_A R n ord tp nu oa ta) (B : kn_B R n (d + 1) ord tp st sk un) (hr : r < 16) (hb : bt (un d) r = true) (hv : ¬ kn_vis n ord r) :
    kn_A R (n + 1) (kt_up ord n r) (kt_up tp n (st d)) (upd nu r (nI n)) (upd oa n (nI r)) (upd ta n (nI (st d))) := by
  obtain ⟨e, hn⟩ := kn_unv A (by omega : r < 17) hv
  obtain ⟨a1, a2, a3, a4, a5, a6, a7, a8, a9⟩ := A
  obtain ⟨b1, b2, b3⟩ := B
  obtain ⟨c1, c2, c3, c4, c5⟩ := b1 d (by omega)
  have hne : ∀ i, i < n → ord i ≠ r := fun i hi q => hv ⟨i, hi, q⟩
  have cg : ∀ {i j : Nat}, j < n → (kt_an (kt_up tp n (st d)) i j ↔ kt_an tp i j) := fun {i j} hj => (kt_an_cg a6 (fun x hx => (kt_un (by omega)).symm)).symm
  have b2' : kt_an tp (st d) (n - 1) := b2 (by omega)
  refine ⟨by omega, by omega, ?_, ?_, ?_, ?_, ?_, ?_, ?_⟩
  · intro i hi
    by_cases q : i = n
    · subst q
      rw [kt_us, pk_us, pk_us]
      exact ⟨rfl, by omega, rfl⟩
    · rw [kt_un q, pk_un q, pk_un (hne i (by omega))]
      exact a3 i (by omega)
  · rw [kt_un (by omega)]; exact a4
  · intro v hv2
    by_cases q : v = r
    · exact Or.inr ⟨n, by omega, by rw [kt_us, q]⟩
    · rw [pk_un q]
      rcases a5 v hv2 with h | ⟨i, hi, h⟩
      · exact Or.inl h
      · exact Or.inr ⟨i, by omega, by rw [kt_un (by omega)]; exact h⟩
  · refine ⟨by rw [kt_un (by omega)]; exact a6.1, fun x hx => ?_⟩
    by_cases q : x = n
    · rw [q, kt_us]; exact c2
    · rw [kt_un q]; exact a6.2 x hx
  · intro j h0 hj
    by_cases q : j = n
    · subst q
      rw [kt_us, kt_us, pk_us, kt_un (by omega), cg (by omega)]
      exact ⟨rfl, ⟨(a3 (st d) c2).2.1, hr, c4 r hr hb⟩, b2'⟩
    · have hl := a6.2 j h0
      rw [kt_un q, kt_un q, pk_un q, kt_un (by omega), cg (by omega)]
      exact a7 j h0 (by omega)
  · intro i j hij hj hE
    by_cases q : j = n
    · subst q
      rw [kt_us, kt_un (by omega)] at hE
      have hk : ∃ k, k < d + 1 ∧ st k = i := by
        by_cases z : ∃ k, k < d + 1 ∧ st k = i
        · exact z
        · exact absurd (b3 i hij (fun k hk q => z ⟨k, hk, q⟩) r hE) hv
      obtain ⟨k, hk, ek⟩ := hk
      have h1 := kn_chn (fun k hk h0 => (b1 k hk).2.2.1 h0) (d - k) k (by omega)
      have e1 : k + (d - k) = d := by omega
      rw [e1, ek] at h1
      refine kt_an_up ?_
      rw [kt_us, cg c2]
      exact h1
    · rw [kt_un (by omega), kt_un (by omega)] at hE
      rw [cg (by omega)]
      exact a8 i j hij (by omega) hE
  · have := kt_cn_fl (p := fun v => decide (nu v < 0)) (q := fun v => decide (upd nu r (nI n) v < 0)) (w := r) (by show decide (nu r < 0) = true; rw [e]; decide) (by show decide (upd nu r (nI n) r < 0) = false; rw [pk_us]; exact decide_eq_false (nI_pos (by omega))) 17 (by omega) (fun i _ hi => by show decide (nu i < 0) = decide (upd nu r (nI n) i < 0); rw [pk_un hi])
    omega
theorem kn_stB {R : Nat → Int32} {n d : Nat} {ord tp st : Nat → Nat} {nu oa ta sk un : Nat → Int32} {r : Nat} (A : kn_A R n ord tp nu oa ta) (B : kn_B R n (d + 1) ord tp st sk un) (hr : r < 16) :
    kn_B R (n + 1) (d + 1 + 1) (kt_up ord n r) (kt_up tp n (st d)) (kt_up st (d + 1) n) (upd sk (d + 1) (nI r)) (upd (upd un d (un d &&& (((1 : Int32) <<< (nI r &&& 31)) ^^^ (-1)))) (d + 1) (R r)) := by
  obtain ⟨a1, a2, a3, a4, a5, a6, a7, a8, a9⟩ := A
  obtain ⟨b1, b2, b3⟩ := B
  have mono : ∀ w, kn_vis n ord w → kn_vis (n + 1) (kt_up ord n r) w := by
    rintro w ⟨i, hi, h⟩
    exact ⟨i, by omega, by rw [kt_un (by omega)]; exact h⟩
  have new : kn_vis (n + 1) (kt_up ord n r) r := ⟨n, by omega, kt_us⟩
  refine ⟨?_, ?_, ?_⟩
  · intro k hk
    by_cases q : k = d + 1
    · subst q
      rw [kt_us, kt_us, kt_us, pk_us, pk_us, kt_un (by omega)]
      exact ⟨rfl, by omega, fun _ => rfl, fun w _ h => h, fun w _ h => Or.inl h⟩
    · obtain ⟨c1, c2, c3, c4, c5⟩ := b1 k (by omega)
      rw [kt_un q, kt_un (by omega : st k ≠ n), kt_un (by omega : st k ≠ n), pk_un q, pk_un q, kt_un (by omega : k - 1 ≠ d + 1)]
      refine ⟨c1, by omega, c3, ?_, ?_⟩
      · intro w hw h
        by_cases z : k = d
        · subst z
          rw [pk_us, kb_clr _ (by omega) (by omega)] at h
          exact c4 w hw (by simp at h; exact h.1)
        · rw [pk_un z] at h
          exact c4 w hw h
      · intro w hw h
        rcases c5 w hw h with h1 | h1
        · by_cases z : k = d
          · subst z
            rw [pk_us, kb_clr _ (by omega) (by omega)]
            by_cases y : w = r
            · subst y; exact Or.inr new
            · left; simp [h1, y]
          · rw [pk_un z]; exact Or.inl h1
        · exact Or.inr (mono w h1)
  · intro _
    show kt_an _ (kt_up st (d + 1) n (d + 1)) n
    rw [kt_us]
    exact kt_an_rf n
  · intro i hi h w hE
    have hin : i ≠ n := by
      intro q
      exact h (d + 1) (by omega) (by rw [kt_us, q])
    rw [kt_un hin] at hE
    refine mono w (b3 i (by omega) (fun k hk => ?_) w hE)
    have := h k (by omega)
    rw [kt_un (by omega)] at this
    exact this
section
variable {f_roots f_fresh f_reached : Int32} {a_sizeOf a_refers a_number a_order a_treeParent a_stack a_untried a_semi a_idom a_ancestor a_label a_path a_bucketHead a_bucketNext a_keeperOf a_depthOf a_heldBy a_first a_last : Nat → Int32}
theorem kn_vi {post : SX → Prop} {v n : Nat} (hv : v < 17) (hn : n < 17) (K : post (f_roots, f_fresh, nI (n + 1), a_sizeOf, a_refers, upd a_number v (nI n), upd a_order n (nI v), a_treeParent, a_stack, a_untried, a_semi, a_idom, a_ancestor, a_label, a_path, a_bucketHead, a_bucketNext, a_keeperOf, a_depthOf, a_heldBy, a_first, a_last)) : wpX_visit post (f_roots, f_fresh, nI n, a_sizeOf, a_refers, a_number, a_order, a_treeParent, a_stack, a_untried, a_semi, a_idom, a_ancestor, a_label, a_path, a_bucketHead, a_bucketNext, a_keeperOf, a_depthOf, a_heldBy, a_first, a_last) (nI v) := by
  refine And.intro (pk_in v 17 hv) ?_
  rw [nI_clamp (n := v) (by omega), nI_clamp (n := n) (by omega)]
  exact nm_e ⟨pk_in n 17 hn, nm_e (nm_r (nI_1 n) K)⟩
theorem kn_64 {post : SX → Prop}
    (K : ∀ (n : Nat) (ord tp st : Nat → Nat) (nu oa ta sk un : Nat → Int32), kn_A a_refers n ord tp nu oa ta → kn_B a_refers n 0 ord tp st sk un → post (f_roots, f_fresh, nI n, a_sizeOf, a_refers, nu, oa, ta, sk, un, a_semi, a_idom, a_ancestor, a_label, a_path, a_bucketHead, a_bucketNext, a_keeperOf, a_depthOf, a_heldBy, a_first, a_last)) :
    ∀ N step d n (ord tp st : Nat → Nat) (nu oa ta sk un : Nat → Int32), kn_A a_refers n ord tp nu oa ta → kn_B a_refers n d ord tp st sk un → d ≤ n → step + kn_ph un d + 17 * (17 - n) ≤ 289 → 289 < N + step →
    wX_numberVertices_64 post N (nI d) (nI step) f_roots f_fresh (nI n) a_sizeOf a_refers nu oa ta sk un a_semi a_idom a_ancestor a_label a_path a_bucketHead a_bucketNext a_keeperOf a_depthOf a_heldBy a_first a_last := by
  intro N
  induction N with
  | zero => intro step d n ord tp st nu oa ta sk un A B hd hs hN; omega
  | succ N ih =>
    intro step d n ord tp st nu oa ta sk un A B hd hs hN
    have hn17 : n ≤ 17 := A.2.1
    refine br_f (nI_ge (b := 400) (by omega) (by decide)) ?_
    cases d with
    | zero => exact br_t (by decide) (K n ord tp st nu oa ta sk un A B)
    | succ d =>
      obtain ⟨c1, c2, c3, c4, c5⟩ := B.1 d (by omega)
      have o1 := A.2.2.1 (st d) c2
      have ePh : kn_ph un (d + 1) = kn_ph un d + (kn_pc (un d) + 1) := rfl
      refine br_f (nI_nle (by omega) (by omega)) ?_
      rw [nI_pred, nI_clamp (n := d) (by omega), c1]
      refine ⟨pk_in d 18 (by omega), nm_e ⟨pk_in d 18 (by omega), ?_⟩⟩
      refine kn_lo (fun hnone => ?_) (fun r hr hbit => ?_)
      · refine br_f (by decide) ?_
        refine nm_r (pk_m1 d) (nm_r (nI_1 step) ?_)
        refine ih (step + 1) d n ord tp st nu oa ta sk un A ?_ (by omega) (by omega) (by omega)
        obtain ⟨b1, b2, b3⟩ := B
        refine ⟨fun k hk => b1 k (by omega), fun h0 => ?_, fun i hi h w hE => ?_⟩
        · have h1 := c3 h0
          have h2 : kt_an tp (st d) (n - 1) := b2 (by omega)
          rw [← h1]
          exact kt_an_tr (kt_an_pa (st d)) h2
        · by_cases q : st d = i
          · subst q
            rcases c5 w hE.2.1 hE.2.2 with h1 | h1
            · rw [hnone w hE.2.1] at h1
              exact absurd h1 (by decide)
            · exact h1
          · refine b3 i hi (fun k hk => ?_) w hE
            by_cases z : k = d
            · rw [z]; exact q
            · exact h k (by omega)
      · refine br_t (nI_pos' (by omega)) ⟨pk_in d 18 (by omega), pk_in d 18 (by omega), nm_e ⟨pk_in r 17 (by omega), ?_⟩⟩
        have hpc := kn_pc_clr hr hbit
        rw [nI_clamp (n := r) (by omega)]
        by_cases hv : kn_vis n ord r
        · obtain ⟨i, hi, ei⟩ := hv
          have o2 := A.2.2.1 i hi
          rw [ei] at o2
          rw [o2.2.2]
          refine br_t (nI_pos' (by omega)) (nm_r (nI_1 step) ?_)
          refine ih (step + 1) (d + 1) n ord tp st nu oa ta sk (upd un d (un d &&& (((1 : Int32) <<< (nI r &&& 31)) ^^^ (-1)))) A ?_ hd (by rw [kn_ph_up]; omega) (by omega)
          obtain ⟨b1, b2, b3⟩ := B
          refine ⟨fun k hk => ?_, b2, b3⟩
          by_cases z : k = d
          · subst z
            rw [pk_us]
            refine ⟨c1, c2, c3, ?_, ?_⟩
            · intro w hw h
              rw [kb_clr _ (by omega) (by omega)] at h
              exact c4 w hw (by simp at h; exact h.1)
            · intro w hw h
              rcases c5 w hw h with h1 | h1
              · by_cases y : w = r
                · subst y; exact Or.inr ⟨i, hi, ei⟩
                · rw [kb_clr _ (by omega) (by omega)]
                  left; simp [h1, y]
              · exact Or.inr h1
          · rw [pk_un z]; exact b1 k hk
        · obtain ⟨en, hn⟩ := kn_unv A (by omega : r < 17) hv
          rw [en, nI_clamp (n := ord (st d)) (by omega), nI_clamp (n := n) (by omega), o1.2.2]
          refine br_f (by decide) ⟨pk_in (ord (st d)) 17 (by omega), pk_in n 17 (by omega), nm_e ?_⟩
          refine kn_vi (by omega : r < 17) hn ?_
          refine And.intro (pk_in (d + 1) 18 (by omega)) ?_
          rw [nI_clamp (n := d + 1) (by omega)]
          refine nm_e ⟨pk_in r 17 (by omega), pk_in (d + 1) 18 (by omega), nm_e (nm_r (nI_1 (d + 1)) (nm_r (nI_1 step) ?_))⟩
          refine ih (step + 1) (d + 1 + 1) (n + 1) (kt_up ord n r) (kt_up tp n (st d)) (kt_up st (d + 1) n) _ _ _ _ _ (kn_stA A B hr hbit hv) (kn_stB A B hr) (by omega) ?_ (by omega)
          rw [kn_ph_up, kn_ph_up]
          have h16 : kn_pc (a_refers r) ≤ 16 := kt_cn_le _ 16
          omega
theorem kn_2 {post : SX → Prop}
    (K : ∀ (nu ta : Nat → Int32), (∀ v, v < 17 → nu v = -1) → wpX_visit (fun u => match u with | (f_roots, f_fresh, f_reached, a_sizeOf, a_refers, a_number, a_order, a_treeParent, a_stack, a_untried, a_semi, a_idom, a_ancestor, a_label, a_path, a_bucketHead, a_bucketNext, a_keeperOf, a_depthOf, a_heldBy, a_first, a_last) => ∀ sk : Nat → Int32, sk = upd a_stack 0 16 → ∀ un : Nat → Int32, un = upd a_untried 0 (a_refers 16) → ∃ n64 : Nat, wX_numberVertices_64 post n64 1 0 f_roots f_fresh f_reached a_sizeOf a_refers a_number a_order a_treeParent sk un a_semi a_idom a_ancestor a_label a_path a_bucketHead a_bucketNext a_keeperOf a_depthOf a_heldBy a_first a_last) (f_roots, f_fresh, 0, a_sizeOf, a_refers, nu, a_order, ta, a_stack, a_untried, a_semi, a_idom, a_ancestor, a_label, a_path, a_bucketHead, a_bucketNext, a_keeperOf, a_depthOf, a_heldBy, a_first, a_last) 16) :
    ∀ N i, i ≤ 17 → 17 - i < N → ∀ nu ta : Nat → Int32, (∀ v, v < i → nu v = -1) →
    wX_numberVertices_2 post f_roots f_fresh f_reached N (nI i) a_sizeOf a_refers nu a_order ta a_stack a_untried a_semi a_idom a_ancestor a_label a_path a_bucketHead a_bucketNext a_keeperOf a_depthOf a_heldBy a_first a_last := by
  intro N
  induction N with
  | zero => intro i _ h; omega
  | succ N ih =>
    intro i hi hN nu ta H
    rcases Nat.eq_or_lt_of_le hi with e | e
    · subst e
      exact br_t (nI_le (a := 17) (Nat.le_refl 17) (by decide)) (K nu ta H)
    · refine br_f (nI_ge (b := 17) e (by decide)) ⟨pk_in i 17 (by omega), ?_⟩
      rw [nI_clamp (n := i) (by omega)]
      refine nm_e ⟨pk_in i 17 (by omega), nm_e (nm_r (nI_1 i) ?_)⟩
      refine ih (i + 1) (by omega) (by omega) _ _ ?_
      intro v hv
      by_cases z : v = i
      · rw [z, pk_us]
      · rw [pk_un z]; exact H v (by omega)
theorem kn_nv {post : SX → Prop}
    (K : ∀ (n : Nat) (ord tp st : Nat → Nat) (nu oa ta sk un : Nat → Int32), kn_A a_refers n ord tp nu oa ta → kn_B a_refers n 0 ord tp st sk un → post (f_roots, f_fresh, nI n, a_sizeOf, a_refers, nu, oa, ta, sk, un, a_semi, a_idom, a_ancestor, a_label, a_path, a_bucketHead, a_bucketNext, a_keeperOf, a_depthOf, a_heldBy, a_first, a_last)) :
    wpX_numberVertices post (f_roots, f_fresh, f_reached, a_sizeOf, a_refers, a_number, a_order, a_treeParent, a_stack, a_untried, a_semi, a_idom, a_ancestor, a_label, a_path, a_bucketHead, a_bucketNext, a_keeperOf, a_depthOf, a_heldBy, a_first, a_last) := by
  refine Exists.intro 18 ?_
  refine kn_2 ?_ 18 0 (by omega) (by omega) a_number a_treeParent (fun v hv => by omega)
  intro nu ta H
  refine kn_vi (v := 16) (n := 0) (by omega) (by omega) ?_
  refine nm_e (nm_e ⟨290, ?_⟩)
  refine kn_64 K 290 0 1 1 (fun _ => 16) (fun _ => 0) (fun _ => 0) (upd nu 16 (nI 0)) (upd a_order 0 (nI 16)) ta (upd a_stack 0 16) (upd a_untried 0 (a_refers 16)) ?_ ?_ (Nat.le_refl 1) ?_ (by omega)
  · refine ⟨Nat.le_refl 1, by omega, ?_, rfl, ?_, ⟨rfl, fun x hx => hx⟩, fun j h0 hj => by omega, fun i j hij hj => by omega, ?_⟩
    · intro i hi
      have e : i = 0 := by omega
      subst e
      exact ⟨pk_us, by decide, pk_us⟩
    · intro v hv
      by_cases e : v = 16
      · exact Or.inr ⟨0, by omega, e.symm⟩
      · rw [pk_un e]; exact Or.inl (H v hv)
    · have h1 : kt_cn (fun v => decide (nu v < 0)) 17 = kt_cn (fun _ => true) 17 := kt_cn_cg 17 (fun i hi => by show decide (nu i < 0) = true; rw [H i hi]; decide)
      have h2 : kt_cn (fun _ => true) 17 = 17 := by decide
      have h3 := kt_cn_fl (p := fun v => decide (nu v < 0)) (q := fun v => decide (upd nu 16 (nI 0) v < 0)) (w := 16) (by show decide (nu 16 < 0) = true; rw [H 16 (by omega)]; decide) (by show decide (upd nu 16 (nI 0) 16 < 0) = false; rw [pk_us]; decide) 17 (by omega) (fun i _ hi => by show decide (nu i < 0) = decide (upd nu 16 (nI 0) i < 0); rw [pk_un hi])
      omega
  · refine ⟨?_, fun _ => kt_an_rf 0, ?_⟩
    · intro k hk
      have e : k = 0 := by omega
      subst e
      rw [pk_us, pk_us]
      exact ⟨rfl, by omega, fun h => by omega, fun w _ h => h, fun w _ h => Or.inl h⟩
    · intro i hi h
      exact absurd (by omega : (0 : Nat) = i) (h 0 (by omega))
  · have h16 : kn_pc (a_refers 16) ≤ 16 := kt_cn_le _ 16
    rw [kn_ph_up]
    show 0 + (0 + (kn_pc (a_refers 16) + 1)) + 17 * (17 - 1) ≤ 289
    omega
end
end
section
/-! 07: sums, child lists, the tree's walk -/
noncomputable def kt_b (p : Prop) : Bool := @decide p (Classical.propDecidable p)
theorem kt_b_t {p : Prop} (h : p) : kt_b p = true := by unfold kt_b; exact @decide_eq_true p (Classical.propDecidable p) h
theorem kt_b_f {p : Prop} (h : ¬ p) : kt_b p = false := by unfold kt_b; exact @decide_eq_false p (Classical.propDecidable p) h
theorem kt_b_i {p : Prop} : kt_b p = true ↔ p := by
  constructor
  · intro h
    by_cases c : p
    · exact c
    · rw [kt_b_f c] at h; exact absurd h (by decide)
  · exact kt_b_t
theorem kt_b_cg {p q : Prop} (h : p ↔ q) : kt_b p = kt_b q := by rw [propext h]
def kt_sum (f : Nat → Int32) (p : Nat → Bool) : Nat → Int32
  | 0 => 0
  | m + 1 => kt_sum f p m + (if p m = true then f m else 0)
theorem kt_sum_cg {f g : Nat → Int32} {p q : Nat → Bool} : ∀ m, (∀ i, i < m → p i = q i ∧ (p i = true → f i = g i)) → kt_sum f p m = kt_sum g q m := by
  intro m
  induction m with
  | zero => intro _; rfl
  | succ m ih =>
    intro h
    show kt_sum f p m + (if p m = true then f m else 0) = kt_sum g q m + (if q m = true then g m else 0)
    rw [ih (fun i hi => h i (by omega)), ← (h m (by omega)).1]
    by_cases c : p m = true
    · rw [if_pos c, if_pos c, (h m (by omega)).2 c]
    · rw [if_neg c, if_neg c]
theorem kt_sum_or {f : Nat → Int32} {p q r : Nat → Bool} (hd : ∀ i, p i = true → q i = true → False) (hr : ∀ i, r i = true ↔ (p i = true ∨ q i = true)) : ∀ m, kt_sum f r m = kt_sum f p m + kt_sum f q m := by
  intro m
  induction m with
  | zero => show (0 : Int32) = 0 + 0; decide
  | succ m ih =>
    show kt_sum f r m + (if r m = true then f m else 0) = (kt_sum f p m + (if p m = true then f m else 0)) + (kt_sum f q m + (if q m = true then f m else 0))
    rw [ih]
    by_cases c : p m = true
    · by_cases d : q m = true
      · exact (hd m c d).elim
      · rw [if_pos ((hr m).mpr (Or.inl c)), if_pos c, if_neg d]
        grind
    · by_cases d : q m = true
      · rw [if_pos ((hr m).mpr (Or.inr d)), if_neg c, if_pos d]
        grind
      · rw [if_neg (fun z => ((hr m).mp z).elim c d), if_neg c, if_neg d]
        grind
theorem kt_sum_one {f : Nat → Int32} {p : Nat → Bool} {w : Nat} (hp : ∀ i, p i = true ↔ i = w) : ∀ m, kt_sum f p m = if w < m then f w else 0 := by
  intro m
  induction m with
  | zero => rfl
  | succ m ih =>
    show kt_sum f p m + (if p m = true then f m else 0) = _
    rw [ih]
    by_cases c : p m = true
    · have e := (hp m).mp c
      subst e
      rw [if_pos c, if_neg (by omega), if_pos (by omega)]
      grind
    · have e : m ≠ w := fun z => c ((hp m).mpr z)
      rw [if_neg c]
      by_cases d : w < m
      · rw [if_pos d, if_pos (by omega)]; grind
      · rw [if_neg d, if_neg (by omega)]; grind
/-- h is the vertex of the least number of S, or -1 -/
def kt_Lo (ord : Nat → Nat) (h : Int32) (S : Nat → Prop) : Prop := (h = -1 ∧ ∀ v, ¬ S v) ∨ ∃ m, h = nI (ord m) ∧ S m ∧ ∀ v, S v → m ≤ v
theorem kt_Lo_cg {ord : Nat → Nat} {h : Int32} {S S' : Nat → Prop} (e : ∀ v, S v ↔ S' v) (H : kt_Lo ord h S) : kt_Lo ord h S' := by
  rcases H with ⟨a, b⟩ | ⟨m, a, b, c⟩
  · exact Or.inl ⟨a, fun v hv => b v ((e v).mpr hv)⟩
  · exact Or.inr ⟨m, a, (e m).mp b, fun v hv => c v ((e v).mpr hv)⟩
/-- i is the greatest of j's dominators up to w, or above w -/
def kl_H (I : Nat → Nat) (w i j : Nat) : Prop := kt_an I i j ∧ ∀ d, kt_an I d j → d ≤ w → d ≤ i
theorem kl_H_top {I : Nat → Nat} (T : kt_Tr I) {w i j : Nat} (hj : j ≤ w) : kl_H I w i j ↔ i = j := by
  constructor
  · intro h
    have h1 := kt_an_le T h.1
    have h2 := h.2 j (kt_an_rf j) hj
    omega
  · intro h
    subst h
    exact ⟨kt_an_rf i, fun d hd _ => kt_an_le T hd⟩
theorem kl_H_0 {I : Nat → Nat} {i j : Nat} : kl_H I 0 i j ↔ kt_an I i j := ⟨fun h => h.1, fun h => ⟨h, fun d _ hd => by omega⟩⟩
theorem kl_H_w {I : Nat → Nat} {w j : Nat} : kl_H I w w j ↔ kt_an I w j := ⟨fun h => h.1, fun h => ⟨h, fun d _ hd => hd⟩⟩
theorem kl_H_ne {I : Nat → Nat} (T : kt_Tr I) {w i j : Nat} (hi : i ≠ I (w + 1)) : kl_H I w i j ↔ kl_H I (w + 1) i j := by
  constructor
  · rintro ⟨h1, h2⟩
    refine ⟨h1, fun d hd hdw => ?_⟩
    by_cases e : d = w + 1
    · subst e
      rcases Nat.lt_or_ge i (w + 1) with q | q
      · have h3 := kt_an_le T (kt_an_lt (kt_an_ch T h1 hd (Nat.le_of_lt q)) q)
        have h4 := T.2 (w + 1) (by omega)
        have h5 := h2 (I (w + 1)) (kt_an_tr (kt_an_pa (w + 1)) hd) (by omega)
        omega
      · exact q
    · exact h2 d hd (by omega)
  · rintro ⟨h1, h2⟩
    exact ⟨h1, fun d hd hdw => h2 d hd (by omega)⟩
theorem kl_H_eq {I : Nat → Nat} (T : kt_Tr I) {w j : Nat} : kl_H I w (I (w + 1)) j ↔ (kl_H I (w + 1) (I (w + 1)) j ∨ kl_H I (w + 1) (w + 1) j) := by
  constructor
  · rintro ⟨h1, h2⟩
    by_cases c : kt_an I (w + 1) j
    · exact Or.inr (kl_H_w.mpr c)
    · refine Or.inl ⟨h1, fun d hd hdw => ?_⟩
      by_cases e : d = w + 1
      · subst e; exact absurd hd c
      · exact h2 d hd (by omega)
  · rintro (⟨h1, h2⟩ | h)
    · exact ⟨h1, fun d hd hdw => h2 d hd (by omega)⟩
    · have h1 := h.1
      refine ⟨kt_an_tr (kt_an_pa (w + 1)) h1, fun d hd hdw => ?_⟩
      exact kt_an_le T (kt_an_lt (kt_an_ch T hd h1 (by omega)) (by omega))
theorem kl_H_dj {I : Nat → Nat} (T : kt_Tr I) {w j : Nat} (h : kl_H I (w + 1) (I (w + 1)) j) (h2 : kl_H I (w + 1) (w + 1) j) : False := by
  have h3 := h.2 (w + 1) h2.1 (Nat.le_refl _)
  have h4 := T.2 (w + 1) (by omega)
  omega
/-- the set of vertices whose size i holds at stage w -/
noncomputable def kl_P (I ord : Nat → Nat) (n w i : Nat) : Nat → Bool := fun o => kt_b (∃ j, j < n ∧ ord j = o ∧ kl_H I w i j)
theorem kl_P_ne {I ord : Nat → Nat} (T : kt_Tr I) {n w i : Nat} (hi : i ≠ I (w + 1)) : kl_P I ord n w i = kl_P I ord n (w + 1) i := by
  funext o
  refine kt_b_cg ⟨?_, ?_⟩
  · rintro ⟨j, h1, h2, h3⟩; exact ⟨j, h1, h2, (kl_H_ne T hi).mp h3⟩
  · rintro ⟨j, h1, h2, h3⟩; exact ⟨j, h1, h2, (kl_H_ne T hi).mpr h3⟩
theorem kl_P_eq {I ord : Nat → Nat} (T : kt_Tr I) {n w : Nat} (hinj : ∀ a b, a < n → b < n → ord a = ord b → a = b) (f : Nat → Int32) (m : Nat) : kt_sum f (kl_P I ord n w (I (w + 1))) m = kt_sum f (kl_P I ord n (w + 1) (I (w + 1))) m + kt_sum f (kl_P I ord n (w + 1) (w + 1)) m := by
  refine kt_sum_or ?_ ?_ m
  · intro o h1 h2
    obtain ⟨j, a1, a2, a3⟩ := kt_b_i.mp h1
    obtain ⟨j', b1, b2, b3⟩ := kt_b_i.mp h2
    have e := hinj j j' a1 b1 (a2.trans b2.symm)
    subst e
    exact kl_H_dj T a3 b3
  · intro o
    constructor
    · intro h
      obtain ⟨j, a1, a2, a3⟩ := kt_b_i.mp h
      rcases (kl_H_eq T).mp a3 with q | q
      · exact Or.inl (kt_b_t ⟨j, a1, a2, q⟩)
      · exact Or.inr (kt_b_t ⟨j, a1, a2, q⟩)
    · rintro (h | h)
      · obtain ⟨j, a1, a2, a3⟩ := kt_b_i.mp h
        exact kt_b_t ⟨j, a1, a2, (kl_H_eq T).mpr (Or.inl a3)⟩
      · obtain ⟨j, a1, a2, a3⟩ := kt_b_i.mp h
        exact kt_b_t ⟨j, a1, a2, (kl_H_eq T).mpr (Or.inr a3)⟩
/-- the walk's state: V visited, st the stack, fi and la the interval, pl the place -/
def kw_W (I ord : Nat → Nat) (n d pl : Nat) (V : Nat → Prop) (st fi la : Nat → Nat) (sk bh bn fa ra : Nat → Int32) : Prop :=
  (∀ k, k < d → st k < n ∧ V (st k) ∧ sk k = nI (ord (st k)) ∧ (0 < k → I (st k) = st (k - 1) ∧ 0 < st k)) ∧
  (∀ i, i < n → kt_Lo ord (bh (ord i)) (fun v => 0 < v ∧ v < n ∧ I v = i ∧ ¬ V v)) ∧
  (∀ v, 0 < v → v < n → kt_Lo ord (bn (ord v)) (fun v' => v < v' ∧ v' < n ∧ I v' = I v)) ∧
  (∀ v v', 0 < v' → v' < v → I v = I v' → V v → V v') ∧
  (∀ i, V i → i < n ∧ (0 < i → V (I i)) ∧ fa (ord i) = nI (fi i) ∧ fi i ≤ pl) ∧ V 0 ∧
  kt_cn (fun i => kt_b (V i)) n = pl + 1 ∧
  (∀ i, V i → (∃ k, k < d ∧ st k = i) → ∀ b, V b → (fi i ≤ fi b ↔ kt_an I i b)) ∧
  (∀ i, V i → (∀ k, k < d → st k ≠ i) → ra (ord i) = nI (la i) ∧ la i ≤ pl ∧ (∀ b, V b → ((fi i ≤ fi b ∧ fi b ≤ la i) ↔ kt_an I i b)) ∧ (∀ c, 0 < c → c < n → I c = i → V c ∧ ∀ k, k < d → st k ≠ c))
theorem kw_up {I : Nat → Nat} {V : Nat → Prop} (h : ∀ i, V i → 0 < i → V (I i)) (T : kt_Tr I) : ∀ j i, kt_an I i j → V j → V i := by
  intro j
  induction j using Nat.strongRecOn with
  | ind j ih =>
    intro i hi hj
    rcases kt_an_ca hi with e | e
    · rw [e]; exact hj
    · rcases Nat.eq_zero_or_pos j with q | q
      · subst q
        rw [T.1] at e
        have := kt_an_le T hi
        have e2 : i = 0 := by omega
        rw [e2]; exact hj
      · exact ih (I j) (T.2 j q) i e (h j hj q)
/-- a finished vertex's whole part is visited and finished -/
theorem kw_dn {I : Nat → Nat} {n : Nat} {F : Nat → Prop} (T : kt_Tr I) (h : ∀ i, F i → ∀ c, 0 < c → c < n → I c = i → F c) {i : Nat} (hi : F i) : ∀ j, j < n → kt_an I i j → F j := by
  intro j
  induction j using Nat.strongRecOn with
  | ind j ih =>
    intro hj ha
    rcases kt_an_ca ha with e | e
    · rw [← e]; exact hi
    · rcases Nat.eq_zero_or_pos j with q | q
      · have := kt_an_le T ha
        have e2 : i = j := by omega
        rw [← e2]; exact hi
      · exact h (I j) (ih (I j) (T.2 j q) (by have := T.2 j q; omega) e) j q hj rfl
theorem kw_inc {I st : Nat → Nat} {d : Nat} (T : kt_Tr I) (h : ∀ k, k < d → 0 < k → I (st k) = st (k - 1) ∧ 0 < st k) : ∀ e k, k + (e + 1) < d → st k < st (k + (e + 1)) := by
  intro e
  induction e with
  | zero =>
    intro k hk
    have h1 := h (k + (0 + 1)) hk (by omega)
    have h2 := T.2 _ h1.2
    have e1 : k + (0 + 1) - 1 = k := by omega
    rw [h1.1, e1] at h2
    exact h2
  | succ e ih =>
    intro k hk
    have h1 := h (k + (e + 1 + 1)) hk (by omega)
    have h2 := T.2 _ h1.2
    have e1 : k + (e + 1 + 1) - 1 = k + (e + 1) := by omega
    rw [h1.1, e1] at h2
    have := ih k (by omega)
    omega
theorem kw_lt {I st : Nat → Nat} {d : Nat} (T : kt_Tr I) (h : ∀ k, k < d → 0 < k → I (st k) = st (k - 1) ∧ 0 < st k) {i j : Nat} (hij : i < j) (hj : j < d) : st i < st j := by
  have := kw_inc T h (j - i - 1) i (by omega)
  have e : i + (j - i - 1 + 1) = j := by omega
  rw [e] at this
  exact this
theorem kw_push {I ord : Nat → Nat} {n d pl : Nat} {V : Nat → Prop} {st fi la : Nat → Nat} {sk bh bn fa ra : Nat → Int32} {m : Nat} (T : kt_Tr I) (hinj : ∀ a b, a < n → b < n → ord a = ord b → a = b) (W : kw_W I ord n (d + 1) pl V st fi la sk bh bn fa ra) (m0 : 0 < m) (mn : m < n) (mI : I m = st d) (mV : ¬ V m) (ml : ∀ v, 0 < v ∧ v < n ∧ I v = st d ∧ ¬ V v → m ≤ v) :
    kw_W I ord n (d + 1 + 1) (pl + 1) (fun i => V i ∨ i = m) (kt_up st (d + 1) m) (kt_up fi m (pl + 1)) la (upd sk (d + 1) (nI (ord m))) (upd bh (ord (st d)) (bn (ord m))) bn (upd fa (ord m) (nI (pl + 1))) ra := by
  obtain ⟨w1, w2, w3, w4, w5, w6, w7, w8, w9⟩ := W
  obtain ⟨s1, s2, s3, s4⟩ := w1 d (by omega)
  have hne : ∀ i, V i → i ≠ m := fun i hi q => mV (q ▸ hi)
  have hst : ∀ k, k < d + 1 → kt_an I (st k) (st d) := by
    intro k hk
    have := kn_chn (d := d + 1) (tp := I) (st := st) (fun k hk h0 => ((w1 k hk).2.2.2 h0).1) (d - k) k (by omega)
    have e : k + (d - k) = d := by omega
    rw [e] at this
    exact this
  refine ⟨?_, ?_, w3, ?_, ?_, Or.inl w6, ?_, ?_, ?_⟩
  · intro k hk
    by_cases q : k = d + 1
    · subst q
      rw [kt_us, pk_us, kt_un (by omega)]
      exact ⟨mn, Or.inr rfl, rfl, fun _ => ⟨mI, m0⟩⟩
    · rw [kt_un q, pk_un q, kt_un (by omega : k - 1 ≠ d + 1)]
      obtain ⟨a, b, c, e⟩ := w1 k (by omega)
      exact ⟨a, Or.inl b, c, e⟩
  · intro i hi
    by_cases q : i = st d
    · subst q
      rw [pk_us]
      refine kt_Lo_cg (fun v => ?_) (w3 m m0 mn)
      rw [mI]
      constructor
      · rintro ⟨a, b, c⟩
        refine ⟨by omega, b, c, ?_⟩
        rintro (z | z)
        · exact mV (w4 v m m0 a (by rw [c, mI]) z)
        · omega
      · rintro ⟨a, b, c, e⟩
        have h1 : ¬ V v := fun z => e (Or.inl z)
        have h2 : v ≠ m := fun z => e (Or.inr z)
        have := ml v ⟨a, b, c, h1⟩
        exact ⟨by omega, b, c⟩
    · rw [pk_un (fun z => q (hinj i (st d) hi s1 z))]
      refine kt_Lo_cg (fun v => ?_) (w2 i hi)
      constructor
      · rintro ⟨a, b, c, e⟩
        refine ⟨a, b, c, ?_⟩
        rintro (z | z)
        · exact e z
        · rw [z, mI] at c
          exact q c.symm
      · rintro ⟨a, b, c, e⟩
        exact ⟨a, b, c, fun z => e (Or.inl z)⟩
  · intro v v' h0 hl he hv
    rcases hv with q | q
    · exact Or.inl (w4 v v' h0 hl he q)
    · subst q
      by_cases z : V v'
      · exact Or.inl z
      · have := ml v' ⟨h0, by omega, by rw [← he, mI], z⟩
        omega
  · intro i hi
    by_cases q : i = m
    · subst q
      rw [pk_us, kt_us]
      exact ⟨mn, fun _ => Or.inl (by rw [mI]; exact s2), rfl, Nat.le_refl _⟩
    · have hi' : V i := hi.resolve_right q
      obtain ⟨a, b, c, e⟩ := w5 i hi'
      rw [kt_un q, pk_un (fun z => q (hinj i m a mn z))]
      exact ⟨a, fun h => Or.inl (b h), c, by omega⟩
  · have := kt_cn_fl (p := fun i => kt_b (V i ∨ i = m)) (q := fun i => kt_b (V i)) (w := m) (kt_b_t (Or.inr rfl)) (kt_b_f mV) n mn (fun i _ hi => kt_b_cg ⟨fun h => h.resolve_right hi, Or.inl⟩)
    rw [this, w7]
  · intro i hi hk b hb
    by_cases q : i = m
    · subst q
      rw [kt_us]
      by_cases z : b = i
      · subst z
        rw [kt_us]
        exact ⟨fun _ => kt_an_rf b, fun _ => Nat.le_refl _⟩
      · have hb' : V b := hb.resolve_right z
        rw [kt_un z]
        have := (w5 b hb').2.2.2
        constructor
        · intro h; omega
        · intro h
          exact absurd (kw_up (fun i hi => (w5 i hi).2.1) T b i h hb') mV
    · have hi' : V i := hi.resolve_right q
      have hk' : ∃ k, k < d + 1 ∧ st k = i := by
        obtain ⟨k, k1, k2⟩ := hk
        by_cases z : k = d + 1
        · subst z
          rw [kt_us] at k2
          exact absurd k2.symm q
        · rw [kt_un z] at k2
          exact ⟨k, by omega, k2⟩
      rw [kt_un q]
      by_cases z : b = m
      · subst z
        rw [kt_us]
        have h1 := (w5 i hi').2.2.2
        obtain ⟨k, k1, k2⟩ := hk'
        have h2 := hst k k1
        rw [k2, ← mI] at h2
        exact ⟨fun _ => kt_an_up h2, fun _ => by omega⟩
      · rw [kt_un z]
        exact w8 i hi' hk' b (hb.resolve_right z)
  · intro i hi hk
    have q : i ≠ m := by
      intro z
      exact hk (d + 1) (by omega) (by rw [kt_us, z])
    have hi' : V i := hi.resolve_right q
    have hk' : ∀ k, k < d + 1 → st k ≠ i := by
      intro k k1
      have := hk k (by omega)
      rw [kt_un (by omega)] at this
      exact this
    obtain ⟨a1, a2, a3, a4⟩ := w9 i hi' hk'
    refine ⟨a1, by omega, ?_, ?_⟩
    · intro b hb
      rw [kt_un q]
      by_cases z : b = m
      · subst z
        rw [kt_us]
        constructor
        · intro h; omega
        · intro h
          have := kw_dn (F := fun i => V i ∧ ∀ k, k < d + 1 → st k ≠ i) T (fun i hi c c0 cn ce => (w9 i hi.1 hi.2).2.2.2 c c0 cn ce) ⟨hi', hk'⟩ b mn h
          exact absurd this.1 mV
      · rw [kt_un z]
        exact a3 b (hb.resolve_right z)
    · intro c c0 cn ce
      obtain ⟨b1, b2⟩ := a4 c c0 cn ce
      refine ⟨Or.inl b1, fun k hk => ?_⟩
      by_cases z : k = d + 1
      · subst z
        rw [kt_us]
        exact fun y => hne c b1 y.symm
      · rw [kt_un z]; exact b2 k (by omega)
theorem kw_pop {I ord : Nat → Nat} {n d pl : Nat} {V : Nat → Prop} {st fi la : Nat → Nat} {sk bh bn fa ra : Nat → Int32} (T : kt_Tr I) (hinj : ∀ a b, a < n → b < n → ord a = ord b → a = b) (W : kw_W I ord n (d + 1) pl V st fi la sk bh bn fa ra) (hno : ∀ v, ¬ (0 < v ∧ v < n ∧ I v = st d ∧ ¬ V v)) :
    kw_W I ord n d pl V st fi (kt_up la (st d) pl) sk bh bn fa (upd ra (ord (st d)) (nI pl)) := by
  obtain ⟨w1, w2, w3, w4, w5, w6, w7, w8, w9⟩ := W
  obtain ⟨s1, s2, s3, s4⟩ := w1 d (by omega)
  have hlt : ∀ {i j : Nat}, i < j → j < d + 1 → st i < st j := fun hij hj => kw_lt T (fun k hk h0 => (w1 k hk).2.2.2 h0) hij hj
  refine ⟨fun k hk => w1 k (by omega), w2, w3, w4, w5, w6, w7, ?_, ?_⟩
  · intro i hi hk b hb
    obtain ⟨k, k1, k2⟩ := hk
    exact w8 i hi ⟨k, by omega, k2⟩ b hb
  · intro i hi hk
    by_cases q : i = st d
    · subst q
      rw [pk_us, kt_us]
      refine ⟨rfl, Nat.le_refl _, ?_, ?_⟩
      · intro b hb
        have h1 := w8 (st d) hi ⟨d, by omega, rfl⟩ b hb
        have h2 := (w5 b hb).2.2.2
        exact ⟨fun h => h1.mp h.1, fun h => ⟨h1.mpr h, h2⟩⟩
      · intro c c0 cn ce
        have hc : V c := by
          by_cases z : V c
          · exact z
          · exact absurd ⟨c0, cn, ce, z⟩ (hno c)
        refine ⟨hc, fun k hk z => ?_⟩
        rcases Nat.eq_zero_or_pos k with y | y
        · subst y
          have h1 := T.2 c c0
          rw [ce, ← z] at h1
          have := hlt hk (by omega)
          omega
        · have h1 := ((w1 k (by omega)).2.2.2 y).1
          rw [z, ce] at h1
          have := hlt (i := k - 1) (j := d) (by omega) (by omega)
          omega
    · rw [kt_un q, pk_un (fun z => q (hinj i (st d) (w5 i hi).1 s1 z))]
      obtain ⟨a1, a2, a3, a4⟩ := w9 i hi (fun k k1 => by
        by_cases z : k = d
        · rw [z]; exact fun y => q y.symm
        · exact hk k (by omega))
      refine ⟨a1, a2, a3, fun c c0 cn ce => ?_⟩
      obtain ⟨b1, b2⟩ := a4 c c0 cn ce
      exact ⟨b1, fun k k1 => b2 k (by omega)⟩
section
variable {f_roots f_fresh f_reached : Int32} {a_sizeOf a_refers a_number a_order a_treeParent a_stack a_untried a_semi a_idom a_ancestor a_label a_path a_bucketHead a_bucketNext a_keeperOf a_depthOf a_heldBy a_first a_last : Nat → Int32}
variable {I ord : Nat → Nat} {n : Nat}
theorem kw_22 {post : SX → Prop} (T : kt_Tr I) (hn : n ≤ 17) (hob : ∀ i, i < n → ord i < 17) (hinj : ∀ a b, a < n → b < n → ord a = ord b → a = b)
    (K : ∀ (pl : Nat) (V : Nat → Prop) (st fi la : Nat → Nat) (sk bh fa ra : Nat → Int32), pl ≤ 16 → kw_W I ord n 0 pl V st fi la sk bh a_bucketNext fa ra → post (f_roots, f_fresh, f_reached, a_sizeOf, a_refers, a_number, a_order, a_treeParent, sk, a_untried, a_semi, a_idom, a_ancestor, a_label, a_path, bh, a_bucketNext, a_keeperOf, a_depthOf, a_heldBy, fa, ra)) :
    ∀ N step d pl (V : Nat → Prop) (st fi la : Nat → Nat) (sk bh fa ra : Nat → Int32), kw_W I ord n d pl V st fi la sk bh a_bucketNext fa ra → step + d = 2 * pl + 1 → d ≤ pl + 1 → 40 < N + step →
    wX_walkTree_22 post f_roots f_fresh f_reached N (nI pl) (nI d) (nI step) a_sizeOf a_refers a_number a_order a_treeParent sk a_untried a_semi a_idom a_ancestor a_label a_path bh a_bucketNext a_keeperOf a_depthOf a_heldBy fa ra := by
  intro N
  induction N with
  | zero =>
    intro step d pl V st fi la sk bh fa ra W h1 h2 h3
    have hc := W.2.2.2.2.2.2.1
    have := kt_cn_le (fun i => kt_b (V i)) n
    omega
  | succ N ih =>
    intro step d pl V st fi la sk bh fa ra W h1 h2 h3
    have hc := W.2.2.2.2.2.2.1
    have hcl := kt_cn_le (fun i => kt_b (V i)) n
    refine br_f (nI_ge (b := 40) (by omega) (by decide)) ?_
    cases d with
    | zero => exact br_t (by decide) (K pl V st fi la sk bh fa ra (by omega) W)
    | succ d =>
      obtain ⟨s1, s2, s3, s4⟩ := W.1 d (by omega)
      have hos := hob (st d) s1
      refine br_f (nI_nle (by omega) (by omega)) ?_
      rw [nI_pred, nI_clamp (n := d) (by omega), s3]
      refine ⟨pk_in d 18 (by omega), nm_e ⟨pk_in (ord (st d)) 17 hos, ?_⟩⟩
      rw [nI_clamp (n := ord (st d)) (by omega)]
      rcases W.2.1 (st d) s1 with ⟨e, hnone⟩ | ⟨m, e, ⟨m0, mn, mI, mV⟩, ml⟩
      · rw [e]
        refine nm_e (br_f (by decide) ⟨pk_in (ord (st d)) 17 hos, nm_e (nm_r (pk_m1 d) (nm_r (nI_1 step) ?_))⟩)
        exact ih (step + 1) d pl V st fi (kt_up la (st d) pl) sk bh fa _ (kw_pop T hinj W hnone) (by omega) (by omega) (by omega)
      · have hom := hob m mn
        have W' := kw_push T hinj W m0 mn mI mV ml
        have hc' := W'.2.2.2.2.2.2.1
        have hcl' := kt_cn_le (fun i => kt_b (V i ∨ i = m)) n
        rw [e]
        refine nm_e (br_t (nI_pos' (by omega)) ⟨pk_in (ord m) 17 hom, pk_in (ord (st d)) 17 hos, ?_⟩)
        rw [nI_clamp (n := ord m) (by omega), nI_clamp (n := d + 1) (by omega)]
        refine nm_e (nm_r (nI_1 pl) ⟨pk_in (ord m) 17 hom, nm_e ⟨pk_in (d + 1) 18 (by omega), nm_e (nm_r (nI_1 (d + 1)) (nm_r (nI_1 step) ?_))⟩⟩)
        exact ih (step + 1) (d + 1 + 1) (pl + 1) _ _ _ _ _ _ _ _ W' (by omega) (by omega) (by omega)
end
end
section
/-! 08: layOutTree -/
theorem kt_cn_0 : ∀ m, kt_cn (fun _ => false) m = 0 := by
  intro m
  induction m with
  | zero => rfl
  | succ m ih =>
    show kt_cn (fun _ => false) m + (if false = true then 1 else 0) = 0
    rw [ih]; rfl
/-- the finished tree by number -/
def kl_F (I ord dp fn ln : Nat → Nat) (n : Nat) (sz kp de he fa ra : Nat → Int32) : Prop :=
  (∀ v, 0 < v → v < n → kp (ord v) = nI (ord (I v))) ∧ dp 0 = 0 ∧ (∀ v, 0 < v → v < n → dp v = dp (I v) + 1) ∧ (∀ v, v < n → de (ord v) = nI (dp v) ∧ dp v ≤ v) ∧ (∀ i, i < n → he (ord i) = kt_sum sz (kl_P I ord n 0 i) 17) ∧ (∀ i, i < n → fa (ord i) = nI (fn i) ∧ fn i ≤ 16 ∧ ra (ord i) = nI (ln i) ∧ ln i ≤ 16) ∧ (∀ i b, i < n → b < n → ((fn i ≤ fn b ∧ fn b ≤ ln i) ↔ kt_an I i b))
section
variable {f_roots f_fresh f_reached : Int32} {a_sizeOf a_refers a_number a_order a_treeParent a_stack a_untried a_semi a_idom a_ancestor a_label a_path a_bucketHead a_bucketNext a_keeperOf a_depthOf a_heldBy a_first a_last : Nat → Int32}
variable {I ord : Nat → Nat} {n : Nat}
theorem kw_wt {post : SX → Prop} (T : kt_Tr I) (hn1 : 1 ≤ n) (hn : n ≤ 17) (hob : ∀ i, i < n → ord i < 17) (hinj : ∀ a b, a < n → b < n → ord a = ord b → a = b) (ho0 : ord 0 = 16) (hh : ∀ i, i < n → kt_Lo ord (a_bucketHead (ord i)) (fun v => 0 < v ∧ v < n ∧ I v = i)) (hx : ∀ v, 0 < v → v < n → kt_Lo ord (a_bucketNext (ord v)) (fun v' => v < v' ∧ v' < n ∧ I v' = I v))
    (K : ∀ (fn ln : Nat → Nat) (sk bh fa ra : Nat → Int32), (∀ i, i < n → fa (ord i) = nI (fn i) ∧ fn i ≤ 16 ∧ ra (ord i) = nI (ln i) ∧ ln i ≤ 16) → (∀ i b, i < n → b < n → ((fn i ≤ fn b ∧ fn b ≤ ln i) ↔ kt_an I i b)) → post (f_roots, f_fresh, f_reached, a_sizeOf, a_refers, a_number, a_order, a_treeParent, sk, a_untried, a_semi, a_idom, a_ancestor, a_label, a_path, bh, a_bucketNext, a_keeperOf, a_depthOf, a_heldBy, fa, ra)) :
    wpX_walkTree post (f_roots, f_fresh, f_reached, a_sizeOf, a_refers, a_number, a_order, a_treeParent, a_stack, a_untried, a_semi, a_idom, a_ancestor, a_label, a_path, a_bucketHead, a_bucketNext, a_keeperOf, a_depthOf, a_heldBy, a_first, a_last) := by
  refine nm_e (nm_e ⟨41, ?_⟩)
  refine kw_22 (I := I) (ord := ord) T hn hob hinj ?_ 41 0 1 0 (fun i => i = 0) (fun _ => 0) (fun _ => 0) (fun _ => 0) (upd a_stack 0 16) a_bucketHead (upd a_first 16 0) a_last ?_ rfl (by omega) (by omega)
  · intro pl V st fi la sk bh fa ra hpl W
    obtain ⟨w1, w2, w3, w4, w5, w6, w7, w8, w9⟩ := W
    have hall : ∀ j, j < n → V j := by
      intro j hj
      exact kw_dn (F := V) T (fun i hi c c0 cn ce => ((w9 i hi (fun k hk => by omega)).2.2.2 c c0 cn ce).1) w6 j hj (kt_an_0 T j)
    refine K fi la sk bh fa ra (fun i hi => ?_) (fun i b hi hb => ?_)
    · have h1 := w5 i (hall i hi)
      have h2 := w9 i (hall i hi) (fun k hk => by omega)
      exact ⟨h1.2.2.1, by have := h1.2.2.2; omega, h2.1, by have := h2.2.1; omega⟩
    · exact (w9 i (hall i hi) (fun k hk => by omega)).2.2.1 b (hall b hb)
  · refine ⟨?_, ?_, hx, ?_, ?_, rfl, ?_, ?_, ?_⟩
    · intro k hk
      have e : k = 0 := by omega
      subst e
      refine ⟨hn1, rfl, ?_, fun h => by omega⟩
      show upd a_stack 0 16 0 = nI (ord 0)
      rw [ho0, pk_us]; rfl
    · intro i hi
      refine kt_Lo_cg (fun v => ?_) (hh i hi)
      exact ⟨fun h => ⟨h.1, h.2.1, h.2.2, by show ¬ v = 0; omega⟩, fun h => ⟨h.1, h.2.1, h.2.2.1⟩⟩
    · intro v v' h0 hl _ hv
      have hv' : v = 0 := hv
      omega
    · intro i hi
      have hi' : i = 0 := hi
      subst hi'
      refine ⟨hn1, fun h => by omega, ?_, Nat.le_refl 0⟩
      rw [ho0, pk_us]; rfl
    · have := kt_cn_fl (p := fun i => kt_b (i = 0)) (q := fun _ => false) (w := 0) (kt_b_t rfl) rfl n hn1 (fun i _ hi => kt_b_f hi)
      rw [this, kt_cn_0]
    · intro i hi _ b hb
      have hi' : i = 0 := hi
      have hb' : b = 0 := hb
      subst hi' hb'
      exact ⟨fun _ => kt_an_rf 0, fun _ => Nat.le_refl 0⟩
    · intro i hi hk
      have hi' : i = 0 := hi
      exact absurd hi'.symm (hk 0 (by omega))
theorem kl_126 {post : SX → Prop} (T : kt_Tr I) (hn1 : 1 ≤ n) (hn : n ≤ 17) (ho : ∀ i, i < n → a_order i = nI (ord i)) (hob : ∀ i, i < n → ord i < 17) (hinj : ∀ a b, a < n → b < n → ord a = ord b → a = b) (ho0 : ord 0 = 16) (hk : ∀ v, 0 < v → v < n → a_keeperOf (ord v) = nI (ord (I v)))
    (K : ∀ (fn ln : Nat → Nat) (sk bh bn he fa ra : Nat → Int32), (∀ i, i < n → he (ord i) = kt_sum a_sizeOf (kl_P I ord n 0 i) 17) → (∀ i, i < n → fa (ord i) = nI (fn i) ∧ fn i ≤ 16 ∧ ra (ord i) = nI (ln i) ∧ ln i ≤ 16) → (∀ i b, i < n → b < n → ((fn i ≤ fn b ∧ fn b ≤ ln i) ↔ kt_an I i b)) → post (f_roots, f_fresh, f_reached, a_sizeOf, a_refers, a_number, a_order, a_treeParent, sk, a_untried, a_semi, a_idom, a_ancestor, a_label, a_path, bh, bn, a_keeperOf, a_depthOf, he, fa, ra)) :
    ∀ w N, w < n → w < N → ∀ he bh bn : Nat → Int32, (∀ i, i < n → he (ord i) = kt_sum a_sizeOf (kl_P I ord n w i) 17) → (∀ i, i < n → kt_Lo ord (bh (ord i)) (fun v => w < v ∧ v < n ∧ I v = i)) → (∀ v, w < v → v < n → kt_Lo ord (bn (ord v)) (fun v' => v < v' ∧ v' < n ∧ I v' = I v)) →
    wX_layOutTree_126 post f_roots f_fresh f_reached N (nI w) a_sizeOf a_refers a_number a_order a_treeParent a_stack a_untried a_semi a_idom a_ancestor a_label a_path bh bn a_keeperOf a_depthOf he a_first a_last := by
  intro w
  induction w with
  | zero =>
    intro N _ hN he bh bn h1 h2 h3
    obtain ⟨N, rfl⟩ : ∃ N', N = N' + 1 := ⟨N - 1, by omega⟩
    refine br_t (by decide) ?_
    refine kw_wt T hn1 hn hob hinj ho0 h2 h3 ?_
    intro fn ln sk bh fa ra q1 q2
    exact K fn ln sk bh bn he fa ra h1 q1 q2
  | succ w ih =>
    intro N hw hN he bh bn h1 h2 h3
    obtain ⟨N, rfl⟩ : ∃ N', N = N' + 1 := ⟨N - 1, by omega⟩
    have hkl := T.2 (w + 1) (by omega)
    have o1 := hob (w + 1) hw
    have o2 := hob (I (w + 1)) (by omega)
    have hkw := hk (w + 1) (by omega) hw
    refine br_f (nI_nle (by omega) (by omega)) ⟨pk_in (w + 1) 17 (by omega), ?_⟩
    rw [nI_clamp (n := w + 1) (by omega), ho (w + 1) hw]
    refine nm_e ⟨pk_in (ord (w + 1)) 17 o1, ?_⟩
    rw [nI_clamp (n := ord (w + 1)) (by omega), hkw]
    refine nm_e ⟨pk_in (ord (I (w + 1))) 17 o2, pk_in (ord (w + 1)) 17 o1, pk_in (ord (I (w + 1))) 17 o2, ?_⟩
    rw [nI_clamp (n := ord (I (w + 1))) (by omega)]
    refine nm_e ⟨pk_in (ord (I (w + 1))) 17 o2, pk_in (ord (w + 1)) 17 o1, nm_e ⟨pk_in (ord (I (w + 1))) 17 o2, nm_e (nm_r (pk_m1 w) ?_)⟩⟩
    refine ih N (by omega) (by omega) _ _ _ ?_ ?_ ?_
    · intro i hi
      by_cases q : i = I (w + 1)
      · subst q
        rw [pk_us, h1 _ hi, h1 _ hw, kl_P_eq T hinj]
      · rw [pk_un (fun z => q (hinj i (I (w + 1)) hi (by omega) z)), h1 i hi, kl_P_ne T q]
    · intro i hi
      by_cases q : i = I (w + 1)
      · subst q
        rw [pk_us]
        exact Or.inr ⟨w + 1, rfl, ⟨by omega, hw, rfl⟩, fun v hv => hv.1⟩
      · rw [pk_un (fun z => q (hinj i (I (w + 1)) hi (by omega) z))]
        refine kt_Lo_cg (fun v => ?_) (h2 i hi)
        constructor
        · rintro ⟨a, b, c⟩
          exact ⟨by omega, b, c⟩
        · rintro ⟨a, b, c⟩
          have : v ≠ w + 1 := fun z => by rw [z] at c; exact q c.symm
          exact ⟨by omega, b, c⟩
    · intro v hv hvn
      by_cases q : v = w + 1
      · subst q
        rw [pk_us]
        exact h2 (I (w + 1)) (by omega)
      · rw [pk_un (fun z => q (hinj v (w + 1) hvn hw z))]
        exact h3 v (by omega) hvn
theorem kl_65 {post : SX → Prop} (T : kt_Tr I) (hn : n ≤ 17) (ho : ∀ i, i < n → a_order i = nI (ord i)) (hob : ∀ i, i < n → ord i < 17) (hinj : ∀ a b, a < n → b < n → ord a = ord b → a = b) (hid : ∀ v, 0 < v → v < n → a_idom v = nI (I v))
    (K : ∀ (dp : Nat → Nat) (kp de : Nat → Int32), (∀ v, 0 < v → v < n → kp (ord v) = nI (ord (I v))) → dp 0 = 0 → (∀ v, 0 < v → v < n → dp v = dp (I v) + 1) → (∀ v, v < n → de (ord v) = nI (dp v) ∧ dp v ≤ v) → ∃ N, wX_layOutTree_126 post f_roots f_fresh (nI n) N (nI n - 1) a_sizeOf a_refers a_number a_order a_treeParent a_stack a_untried a_semi a_idom a_ancestor a_label a_path a_bucketHead a_bucketNext kp de a_heldBy a_first a_last) :
    ∀ N w, 0 < w → w ≤ n → n - w < N → ∀ (dp : Nat → Nat) (kp de : Nat → Int32), (∀ v, 0 < v → v < w → kp (ord v) = nI (ord (I v))) → dp 0 = 0 → (∀ v, 0 < v → v < w → dp v = dp (I v) + 1) → (∀ v, v < w → de (ord v) = nI (dp v) ∧ dp v ≤ v) →
    wX_layOutTree_65 post f_roots f_fresh (nI n) N (nI w) a_sizeOf a_refers a_number a_order a_treeParent a_stack a_untried a_semi a_idom a_ancestor a_label a_path a_bucketHead a_bucketNext kp de a_heldBy a_first a_last := by
  intro N
  induction N with
  | zero => intro w _ _ h; omega
  | succ N ih =>
    intro w hw0 hwn hN dp kp de h1 h2 h3 h4
    rcases Nat.eq_or_lt_of_le hwn with e | e
    · subst e
      exact br_t (nI_le (Nat.le_refl w) (by omega)) (nm_e (K dp kp de h1 h2 h3 h4))
    · have hl := T.2 w hw0
      have o1 := hob w e
      have o2 := hob (I w) (by omega)
      obtain ⟨d1, d2⟩ := h4 (I w) hl
      refine br_f (nI_ge e (by omega)) ⟨pk_in w 17 (by omega), ?_⟩
      rw [nI_clamp (n := w) (by omega), ho w e, hid w hw0 e, nI_clamp (n := I w) (by omega), ho (I w) (by omega)]
      refine nm_e ⟨pk_in w 17 (by omega), pk_in (I w) 17 (by omega), nm_e ⟨pk_in (ord w) 17 o1, ?_⟩⟩
      rw [nI_clamp (n := ord w) (by omega), nI_clamp (n := ord (I w)) (by omega), d1, nI_1]
      refine nm_e ⟨pk_in (ord (I w)) 17 o2, pk_in (ord w) 17 o1, nm_e (nm_r (nI_1 w) ?_)⟩
      have hne : ∀ v, v < w → ord v ≠ ord w := fun v hv z => by have := hinj v w (by omega) e z; omega
      refine ih (w + 1) (by omega) (by omega) (by omega) (kt_up dp w (dp (I w) + 1)) _ _ ?_ ?_ ?_ ?_
      · intro v h0 hv
        by_cases q : v = w
        · rw [q, pk_us]
        · rw [pk_un (hne v (by omega))]; exact h1 v h0 (by omega)
      · rw [kt_un (by omega)]; exact h2
      · intro v h0 hv
        have hlv := T.2 v h0
        rw [kt_un (by omega : I v ≠ w)]
        by_cases q : v = w
        · subst q; rw [kt_us]
        · rw [kt_un q]; exact h3 v h0 (by omega)
      · intro v hv
        by_cases q : v = w
        · subst q
          rw [pk_us, kt_us]
          exact ⟨rfl, by omega⟩
        · rw [pk_un (hne v (by omega)), kt_un q]; exact h4 v (by omega)
theorem kl_19 {post : SX → Prop}
    (K : ∀ he bh : Nat → Int32, (∀ v, v < 17 → (a_number v < 0 → he v = 0) ∧ (¬ a_number v < 0 → he v = a_sizeOf v) ∧ bh v = -1) → ∃ N, wX_layOutTree_65 post f_roots f_fresh f_reached N 1 a_sizeOf a_refers a_number a_order a_treeParent a_stack a_untried a_semi a_idom a_ancestor a_label a_path bh a_bucketNext a_keeperOf a_depthOf he a_first a_last) :
    ∀ N i, i ≤ 17 → 17 - i < N → ∀ he bh : Nat → Int32, (∀ v, v < i → (a_number v < 0 → he v = 0) ∧ (¬ a_number v < 0 → he v = a_sizeOf v) ∧ bh v = -1) →
    wX_layOutTree_19 post f_roots f_fresh f_reached N (nI i) a_sizeOf a_refers a_number a_order a_treeParent a_stack a_untried a_semi a_idom a_ancestor a_label a_path bh a_bucketNext a_keeperOf a_depthOf he a_first a_last := by
  intro N
  induction N with
  | zero => intro i _ h; omega
  | succ N ih =>
    intro i hi hN he bh H
    rcases Nat.eq_or_lt_of_le hi with e | e
    · subst e
      exact br_t (nI_le (a := 17) (Nat.le_refl 17) (by decide)) (K he bh H)
    · refine br_f (nI_ge (b := 17) e (by decide)) ⟨pk_in i 17 (by omega), ?_⟩
      rw [nI_clamp (n := i) (by omega)]
      have tail : ∀ z : Int32, (a_number i < 0 → z = 0) → (¬ a_number i < 0 → z = a_sizeOf i) → wX_layOutTree_49 post (wX_layOutTree_19 post f_roots f_fresh f_reached N) (nI i) z (nI i) f_roots f_fresh f_reached a_sizeOf a_refers a_number a_order a_treeParent a_stack a_untried a_semi a_idom a_ancestor a_label a_path bh a_bucketNext a_keeperOf a_depthOf he a_first a_last := by
        intro z z1 z2
        refine And.intro (pk_in i 17 (by omega)) ?_
        rw [nI_clamp (n := i) (by omega)]
        refine nm_e ⟨pk_in i 17 (by omega), nm_e (nm_r (nI_1 i) ?_)⟩
        refine ih (i + 1) (by omega) (by omega) _ _ ?_
        intro v hv
        by_cases q : v = i
        · subst q
          rw [pk_us, pk_us]
          exact ⟨z1, z2, rfl⟩
        · rw [pk_un q, pk_un q]; exact H v (by omega)
      refine br_c (fun h => ?_) (fun h => ⟨pk_in i 17 (by omega), ?_⟩)
      · exact tail 0 (fun _ => rfl) (fun q => absurd h q)
      · exact tail (a_sizeOf i) (fun q => absurd q h) (fun _ => rfl)
theorem kl_lt {post : SX → Prop} (T : kt_Tr I) (hn1 : 1 ≤ n) (hn : n ≤ 17) (ho : ∀ i, i < n → a_order i = nI (ord i) ∧ ord i < 17 ∧ a_number (ord i) = nI i) (ho0 : ord 0 = 16) (hid : ∀ v, 0 < v → v < n → a_idom v = nI (I v))
    (K : ∀ (dp fn ln : Nat → Nat) (sk bh bn kp de he fa ra : Nat → Int32), kl_F I ord dp fn ln n a_sizeOf kp de he fa ra → post (f_roots, f_fresh, nI n, a_sizeOf, a_refers, a_number, a_order, a_treeParent, sk, a_untried, a_semi, a_idom, a_ancestor, a_label, a_path, bh, bn, kp, de, he, fa, ra)) :
    wpX_layOutTree post (f_roots, f_fresh, nI n, a_sizeOf, a_refers, a_number, a_order, a_treeParent, a_stack, a_untried, a_semi, a_idom, a_ancestor, a_label, a_path, a_bucketHead, a_bucketNext, a_keeperOf, a_depthOf, a_heldBy, a_first, a_last) := by
  have hinj : ∀ a b, a < n → b < n → ord a = ord b → a = b := by
    intro a b ha hb e
    have h1 := (ho a ha).2.2
    have h2 := (ho b hb).2.2
    rw [e] at h1
    exact kb_inj (h1.symm.trans h2) (by omega) (by omega)
  refine nm_e (nm_e ⟨18, ?_⟩)
  refine kl_19 ?_ 18 0 (by omega) (by omega) a_heldBy a_bucketHead (fun v hv => by omega)
  intro he bh H
  refine ⟨n + 1, ?_⟩
  refine kl_65 (I := I) (ord := ord) T hn (fun i hi => (ho i hi).1) (fun i hi => (ho i hi).2.1) hinj hid ?_ (n + 1) 1 (by omega) hn1 (by omega) (fun _ => 0) (upd a_keeperOf 16 16) (upd a_depthOf 16 0) (fun v h0 hv => by omega) rfl (fun v h0 hv => by omega) ?_
  · intro dp kp de k1 k2 k3 k4
    refine ⟨n + 1, ?_⟩
    obtain ⟨m, rfl⟩ : ∃ m, n = m + 1 := ⟨n - 1, by omega⟩
    rw [nI_pred]
    refine kl_126 (I := I) (ord := ord) T hn1 hn (fun i hi => (ho i hi).1) (fun i hi => (ho i hi).2.1) hinj ho0 k1 ?_ m (m + 1 + 1) (by omega) (by omega) he bh a_bucketNext ?_ ?_ (fun v h1 h2 => by omega)
    · intro fn ln sk bh bn he fa ra q1 q2 q3
      exact K dp fn ln sk bh bn kp de he fa ra ⟨k1, k2, k3, k4, q1, q2, q3⟩
    · intro i hi
      have hoi := ho i hi
      have h1 := (H (ord i) hoi.2.1).2.1 (by rw [hoi.2.2]; exact nI_pos (by omega))
      rw [h1, kt_sum_one (w := ord i) ?_ 17, if_pos hoi.2.1]
      intro o
      constructor
      · intro h
        obtain ⟨j, a1, a2, a3⟩ := kt_b_i.mp h
        have := (kl_H_top T (by omega)).mp a3
        rw [this, a2]
      · intro h
        exact kt_b_t ⟨i, hi, h.symm, (kl_H_top T (by omega)).mpr rfl⟩
    · intro i hi
      exact Or.inl ⟨(H (ord i) (ho i hi).2.1).2.2, fun v hv => by omega⟩
  · intro v hv
    have e : v = 0 := by omega
    subst e
    rw [ho0, pk_us]
    exact ⟨rfl, Nat.le_refl 0⟩
end
end
section
/-! 09: the finished tree by vertex; prepare -/
def kv_al (E : Nat → Nat → Prop) (v : Nat) : Prop := ∃ m, kt_pt E (fun _ => True) m 16 v
def kv_av (E : Nat → Nat → Prop) (k v : Nat) : Prop := 16 ≠ k ∧ ∃ m, kt_pt E (fun x => x ≠ k) m 16 v
/-- k dominates v -/
def kv_D (E : Nat → Nat → Prop) (k v : Nat) : Prop := kv_al E v ∧ ¬ kv_av E k v
/-- all that a query asks of the finished tree -/
def kv_Gd (E : Nat → Nat → Prop) (sz nu kp de he fa ra : Nat → Int32) : Prop := ∃ K dp : Nat → Nat,
  (∀ v, v < 17 → (¬ nu v < 0 ↔ kv_al E v)) ∧
  (∀ v, v < 17 → kv_al E v → v ≠ 16 → K v < 17 ∧ kv_al E (K v) ∧ kp v = nI (K v) ∧ dp v = dp (K v) + 1 ∧ ∀ k, k < 17 → (kv_D E k v ↔ (k = v ∨ kv_D E k (K v)))) ∧
  dp 16 = 0 ∧ (∀ v, v < 17 → kv_al E v → de v = nI (dp v) ∧ dp v ≤ 16) ∧
  (∀ k, k < 17 → kv_al E k → he k = kt_sum sz (fun o => kt_b (kv_D E k o)) 17) ∧
  (∀ k o, k < 17 → o < 17 → kv_al E k → kv_al E o → ((¬ fa o < fa k ∧ ¬ ra k < fa o) ↔ kv_D E k o))
theorem kv_al16 (E : Nat → Nat → Prop) : kv_al E 16 := ⟨0, rfl⟩
theorem kv_D16 (E : Nat → Nat → Prop) (k : Nat) : kv_D E k 16 ↔ k = 16 := by
  constructor
  · intro h
    by_cases c : k = 16
    · exact c
    · exact absurd ⟨fun z => c z.symm, 0, rfl⟩ h.2
  · intro h
    subst h
    exact ⟨kv_al16 E, fun z => z.1 rfl⟩
section
variable {R : Nat → Int32} {n : Nat} {ord tp st I : Nat → Nat} {nu oa ta sk un : Nat → Int32}
/-- the graph on numbers -/
def kv_E (R : Nat → Int32) (ord : Nat → Nat) (n : Nat) : Nat → Nat → Prop := fun i j => i < n ∧ j < n ∧ kt_ev R (ord i) (ord j)
theorem kv_G (A : kn_A R n ord tp nu oa ta) : kt_G (kv_E R ord n) tp n := by
  obtain ⟨a1, a2, a3, a4, a5, a6, a7, a8, a9⟩ := A
  refine ⟨a6, fun j h0 hj => (a7 j h0 hj).2.2, fun i j h => ⟨h.1, h.2.1⟩, fun j h0 hj => ?_, fun i j h hl => a8 i j hl h.2.1 h.2.2⟩
  have := a6.2 j h0
  exact ⟨by omega, hj, (a7 j h0 hj).2.1⟩
theorem kv_inj (A : kn_A R n ord tp nu oa ta) : ∀ a b, a < n → b < n → ord a = ord b → a = b := by
  obtain ⟨a1, a2, a3, a4, a5, a6, a7, a8, a9⟩ := A
  intro a b ha hb e
  have h1 := (a3 a ha).2.2
  have h2 := (a3 b hb).2.2
  rw [e] at h1
  exact kb_inj (h1.symm.trans h2) (by omega) (by omega)
theorem kv_to (A : kn_A R n ord tp nu oa ta) (B : kn_B R n 0 ord tp st sk un) {Q : Nat → Prop} : ∀ m v, kt_pt (kt_ev R) Q m 16 v → ∃ i, i < n ∧ ord i = v ∧ kt_pt (kv_E R ord n) (fun j => Q (ord j)) m 0 i := by
  intro m
  induction m with
  | zero =>
    intro v h
    have e : 16 = v := h
    exact ⟨0, A.1, by rw [A.2.2.2.1, e], rfl⟩
  | succ m ih =>
    intro v h
    obtain ⟨z, h1, h2, h3⟩ := h
    obtain ⟨i, hi, ei, hp⟩ := ih z h1
    rw [← ei] at h2
    obtain ⟨j, hj, ej⟩ := B.2.2 i hi (fun k hk => by omega) v h2
    refine ⟨j, hj, ej, kt_pt_s hp ⟨hi, hj, by rw [ej]; exact h2⟩ (by rw [ej]; exact h3)⟩
theorem kv_fr (A : kn_A R n ord tp nu oa ta) {Q : Nat → Prop} : ∀ m i, kt_pt (kv_E R ord n) (fun j => Q (ord j)) m 0 i → kt_pt (kt_ev R) Q m 16 (ord i) := by
  intro m
  induction m with
  | zero =>
    intro i h
    have e : 0 = i := h
    show 16 = ord i
    rw [← e, A.2.2.2.1]
  | succ m ih =>
    intro i h
    obtain ⟨z, h1, h2, h3⟩ := h
    exact kt_pt_s (ih z h1) h2.2.2 h3
theorem kv_vis (A : kn_A R n ord tp nu oa ta) (B : kn_B R n 0 ord tp st sk un) {v : Nat} : kv_al (kt_ev R) v ↔ kn_vis n ord v := by
  constructor
  · rintro ⟨m, h⟩
    obtain ⟨i, hi, ei, _⟩ := kv_to A B m v h
    exact ⟨i, hi, ei⟩
  · rintro ⟨i, hi, ei⟩
    obtain ⟨k, hk⟩ := kt_tpath (kv_G A) 0 i hi (kt_an_0 A.2.2.2.2.2.1 i)
    rw [← ei]
    exact ⟨k, kv_fr A (Q := fun _ => True) k i (kt_pt_mq hk (fun _ _ => trivial))⟩
theorem kv_avn (A : kn_A R n ord tp nu oa ta) (B : kn_B R n 0 ord tp st sk un) {k i : Nat} (hk : k < n) (hi : i < n) : kv_av (kt_ev R) (ord k) (ord i) ↔ kt_av (kv_E R ord n) k i := by
  have hinj := kv_inj A
  have e0 : 16 ≠ ord k ↔ 0 ≠ k := by
    rw [← A.2.2.2.1]
    exact ⟨fun h z => h (by rw [z]), fun h z => h (hinj 0 k A.1 hk z)⟩
  constructor
  · rintro ⟨h0, m, h⟩
    obtain ⟨j, hj, ej, hp⟩ := kv_to A B m (ord i) h
    have := hinj j i hj hi ej
    subst this
    refine ⟨e0.mp h0, m, kt_pt_mq hp (fun v hv z => hv (by rw [z]))⟩
  · rintro ⟨h0, m, h⟩
    refine ⟨e0.mpr h0, m, kv_fr A (Q := fun x => x ≠ ord k) m i ?_⟩
    have key : ∀ m y, kt_pt (kv_E R ord n) (fun v => v ≠ k) m 0 y → kt_pt (kv_E R ord n) (fun j => ord j ≠ ord k) m 0 y := by
      intro m
      induction m with
      | zero => intro y h; exact h
      | succ m ih =>
        intro y h
        obtain ⟨z, h1, h2, h3⟩ := h
        exact kt_pt_s (ih z h1) h2 (fun q => h3 (hinj y k h2.2.1 hk q))
    exact key m i h
theorem kv_Dn (A : kn_A R n ord tp nu oa ta) (B : kn_B R n 0 ord tp st sk un) (F : ∀ v, v < n → ∀ d, ¬ kt_av (kv_E R ord n) d v ↔ kt_an I d v) {k i : Nat} (hk : k < n) (hi : i < n) : kv_D (kt_ev R) (ord k) (ord i) ↔ kt_an I k i := by
  rw [← F i hi k, ← kv_avn A B hk hi]
  exact ⟨fun h => h.2, fun h => ⟨(kv_vis A B).mpr ⟨i, hi, rfl⟩, h⟩⟩
theorem kv_Du (A : kn_A R n ord tp nu oa ta) (B : kn_B R n 0 ord tp st sk un) {k v : Nat} (h : kv_D (kt_ev R) k v) : kn_vis n ord k := by
  by_cases c : kn_vis n ord k
  · exact c
  · exfalso
    obtain ⟨⟨m, hm⟩, h2⟩ := h
    have key : ∀ m y, kt_pt (kt_ev R) (fun _ => True) m 16 y → kt_pt (kt_ev R) (fun x => x ≠ k) m 16 y := by
      intro m
      induction m with
      | zero => intro y h; exact h
      | succ m ih =>
        intro y h
        obtain ⟨z, h1, h2, h3⟩ := h
        refine kt_pt_s (ih z h1) h2 (fun q => c ?_)
        rw [← q]
        exact (kv_vis A B).mp ⟨m + 1, kt_pt_s h1 h2 trivial⟩
    exact h2 ⟨fun z => c ⟨0, A.1, by rw [A.2.2.2.1]; exact z⟩, m, key m v hm⟩
theorem kv_gd (A : kn_A R n ord tp nu oa ta) (B : kn_B R n 0 ord tp st sk un) (T : kt_Tr I) (F : ∀ v, v < n → ∀ d, ¬ kt_av (kv_E R ord n) d v ↔ kt_an I d v) {dp fn ln : Nat → Nat} {sz kp de he fa ra : Nat → Int32} (L : kl_F I ord dp fn ln n sz kp de he fa ra) : kv_Gd (kt_ev R) sz nu kp de he fa ra := by
  obtain ⟨l1, l2, l3, l4, l5, l6, l7⟩ := L
  have hinj := kv_inj A
  have hvis : ∀ v, kv_al (kt_ev R) v → ∃ i, i < n ∧ ord i = v := fun v h => (kv_vis A B).mp h
  have a3 := A.2.2.1
  have hn17 := A.2.1
  have hnum : ∀ i, i < n → (nu (ord i)).toNatClampNeg = i := fun i hi => by rw [(a3 i hi).2.2, nI_clamp (by omega)]
  refine ⟨fun v => ord (I (nu v).toNatClampNeg), fun v => dp (nu v).toNatClampNeg, ?_, ?_, ?_, ?_, ?_, ?_⟩
  · intro v hv
    constructor
    · intro h
      rcases A.2.2.2.2.1 v hv with q | q
      · rw [q] at h
        exact absurd kb_m1 h
      · exact (kv_vis A B).mpr q
    · intro h
      obtain ⟨i, hi, ei⟩ := hvis v h
      rw [← ei, (a3 i hi).2.2]
      exact nI_pos (by omega)
  · intro v hv hal hne
    obtain ⟨i, hi, ei⟩ := hvis v hal
    subst ei
    have h0 : 0 < i := by
      rcases Nat.eq_zero_or_pos i with q | q
      · rw [q, A.2.2.2.1] at hne; exact absurd rfl hne
      · exact q
    have hl := T.2 i h0
    dsimp only
    rw [hnum i hi, hnum (I i) (by omega)]
    refine ⟨(a3 (I i) (by omega)).2.1, (kv_vis A B).mpr ⟨I i, by omega, rfl⟩, l1 i h0 hi, l3 i h0 hi, fun k hk => ?_⟩
    constructor
    · intro h
      obtain ⟨j, hj, ej⟩ := kv_Du A B h
      subst ej
      rcases kt_an_ca ((kv_Dn A B F hj hi).mp h) with q | q
      · exact Or.inl (by rw [q])
      · exact Or.inr ((kv_Dn A B F hj (by omega)).mpr q)
    · rintro (h | h)
      · subst h
        exact (kv_Dn A B F hi hi).mpr (kt_an_rf i)
      · obtain ⟨j, hj, ej⟩ := kv_Du A B h
        subst ej
        exact (kv_Dn A B F hj hi).mpr (kt_an_up ((kv_Dn A B F hj (by omega)).mp h))
  · show dp (nu 16).toNatClampNeg = 0
    have := hnum 0 A.1
    rw [A.2.2.2.1] at this
    rw [this, l2]
  · intro v hv hal
    obtain ⟨i, hi, ei⟩ := hvis v hal
    subst ei
    show de (ord i) = nI (dp (nu (ord i)).toNatClampNeg) ∧ dp (nu (ord i)).toNatClampNeg ≤ 16
    rw [hnum i hi]
    have := l4 i hi
    exact ⟨this.1, by omega⟩
  · intro k hk hal
    obtain ⟨i, hi, ei⟩ := hvis k hal
    subst ei
    rw [l5 i hi]
    refine kt_sum_cg 17 (fun o ho => ⟨kt_b_cg ⟨?_, ?_⟩, fun _ => rfl⟩)
    · rintro ⟨j, h1, h2, h3⟩
      rw [← h2]
      exact (kv_Dn A B F hi h1).mpr (kl_H_0.mp h3)
    · intro h
      obtain ⟨j, hj, ej⟩ := hvis o h.1
      subst ej
      exact ⟨j, hj, rfl, kl_H_0.mpr ((kv_Dn A B F hi hj).mp h)⟩
  · intro k o hk ho hal hao
    obtain ⟨i, hi, ei⟩ := hvis k hal
    obtain ⟨j, hj, ej⟩ := hvis o hao
    subst ei ej
    obtain ⟨b1, b2, b3, b4⟩ := l6 i hi
    obtain ⟨c1, c2, c3, c4⟩ := l6 j hj
    rw [b1, c1, b3, nI_ltI (by omega) (by omega), nI_ltI (by omega) (by omega), kv_Dn A B F hi hj, ← l7 i j hi hj]
    omega
end
section
variable {f_roots f_fresh f_reached : Int32} {a_sizeOf a_refers a_number a_order a_treeParent a_stack a_untried a_semi a_idom a_ancestor a_label a_path a_bucketHead a_bucketNext a_keeperOf a_depthOf a_heldBy a_first a_last : Nat → Int32}
/-- prepare: the finished tree belongs to the references as they are -/
theorem kp_pr {post : SX → Prop} {E : Nat → Nat → Prop} (hE : ∀ v w, kt_ev (upd a_refers 16 f_roots) v w ↔ E v w) (hF : ¬ f_fresh = 0 → kv_Gd E a_sizeOf a_number a_keeperOf a_depthOf a_heldBy a_first a_last)
    (K : ∀ (fresh reached : Int32) (rf nu oa ta sk un se id an lb pa bh bn kp de he fa ra : Nat → Int32), (∀ v, v < 16 → rf v = a_refers v) → kv_Gd E a_sizeOf nu kp de he fa ra → post (f_roots, fresh, reached, a_sizeOf, rf, nu, oa, ta, sk, un, se, id, an, lb, pa, bh, bn, kp, de, he, fa, ra)) :
    wpX_prepare post (f_roots, f_fresh, f_reached, a_sizeOf, a_refers, a_number, a_order, a_treeParent, a_stack, a_untried, a_semi, a_idom, a_ancestor, a_label, a_path, a_bucketHead, a_bucketNext, a_keeperOf, a_depthOf, a_heldBy, a_first, a_last) := by
  refine br_c (fun _ => ?_) (fun h => ?_)
  · refine nm_e ?_
    refine kn_nv ?_
    intro n ord tp st nu oa ta sk un A B
    refine kd_fd (E := kv_E (upd a_refers 16 f_roots) ord n) (tp := tp) (ord := ord) (kv_G A) A.2.1 A.1 (fun i hi => (A.2.2.1 i hi).1) (fun i hi => (A.2.2.1 i hi).2.1) ?_ (fun i h0 hi => (A.2.2.2.2.2.2.1 i h0 hi).1) ?_
    · intro i j hi h0 hj
      constructor
      · intro h; exact h.2.2.2.2
      · intro h
        have := (A.2.2.2.2.2.2.1 j h0 hj).2.1.2.1
        exact ⟨hi, hj, (A.2.2.1 i hi).2.1, this, h⟩
    · intro se id an lb pa bh bn I T hid F
      refine kl_lt (I := I) (ord := ord) T A.1 A.2.1 A.2.2.1 A.2.2.2.1 hid ?_
      intro dp fn ln sk' bh' bn' kp de he fa ra L
      have hEE : kt_ev (upd a_refers 16 f_roots) = E := funext fun v => funext fun w => propext (hE v w)
      have gd := kv_gd A B T F L
      rw [hEE] at gd
      exact K 1 (nI n) (upd a_refers 16 f_roots) nu oa ta sk' un se id an lb pa bh' bn' kp de he fa ra (fun v hv => pk_un (by omega)) gd
  · exact K f_fresh f_reached a_refers a_number a_order a_treeParent a_stack a_untried a_semi a_idom a_ancestor a_label a_path a_bucketHead a_bucketNext a_keeperOf a_depthOf a_heldBy a_first a_last (fun _ _ => rfl) (hF h)
end
end
section
/-! 10: the reference: find, gather -/
def ky_E (rt rf : Nat → Int32) (v w : Nat) : Prop := w < 16 ∧ ((v = 16 ∧ ¬ rt w = 0) ∨ (v < 16 ∧ ¬ rf (16 * v + w) = 0))
theorem ky_b0 : vp_nar .boolean 0 = 0 := rfl
theorem ky_b1 : vp_nar .boolean 1 = 1 := rfl
theorem ky_ix (a b : Nat) : (16 : Int32) * nI a + nI b = nI (16 * a + b) := by
  show nI 16 * nI a + nI b = _
  rw [pk_mul, nI_add]
theorem kt_cn_fu {p : Nat → Bool} : ∀ m, m ≤ kt_cn p m → ∀ i, i < m → p i = true := by
  intro m
  induction m with
  | zero => intro _ i hi; omega
  | succ m ih =>
    intro h i hi
    have h1 : kt_cn p m + (if p m = true then 1 else 0) ≥ m + 1 := h
    have h2 := kt_cn_le p m
    by_cases c : p m = true
    · rw [if_pos c] at h1
      by_cases e : i = m
      · rw [e]; exact c
      · exact ih (by omega) i (by omega)
    · rw [if_neg c] at h1
      omega
def ky_cnt (fo : Nat → Int32) : Nat := kt_cn (fun o => decide (¬ fo o = 0)) 16
/-- what is found is found by a path; the roots are found -/
def ky_S (E : Nat → Nat → Prop) (Q : Nat → Prop) (fo : Nat → Int32) : Prop := (∀ o, o < 16 → (fo o = 0 ∨ fo o = 1) ∧ (¬ fo o = 0 → ∃ m, kt_pt E Q m 16 o)) ∧ (∀ w, w < 16 → E 16 w → Q w → ¬ fo w = 0)
def ky_C (E : Nat → Nat → Prop) (Q : Nat → Prop) (fo : Nat → Int32) : Prop := ∀ v w, v < 16 → w < 16 → E v w → Q w → ¬ fo v = 0 → ¬ fo w = 0
theorem ky_cl {rt rf fo : Nat → Int32} {Q : Nat → Prop} (S : ky_S (ky_E rt rf) Q fo) (C : ky_C (ky_E rt rf) Q fo) : ∀ o, o < 16 → (¬ fo o = 0 ↔ ∃ m, kt_pt (ky_E rt rf) Q m 16 o) := by
  intro o ho
  refine ⟨(S.1 o ho).2, ?_⟩
  rintro ⟨m, h⟩
  have key : ∀ m y, kt_pt (ky_E rt rf) Q m 16 y → y = 16 ∨ (y < 16 ∧ ¬ fo y = 0) := by
    intro m
    induction m with
    | zero =>
      intro y h
      have e : 16 = y := h
      exact Or.inl e.symm
    | succ m ih =>
      intro y h
      obtain ⟨z, h1, h2, h3⟩ := h
      right
      refine ⟨h2.1, ?_⟩
      rcases ih z h1 with q | q
      · rw [q] at h2
        exact S.2 y h2.1 h2 h3
      · exact C z y q.1 h2.1 h2 h3 q.2
  rcases key m o h with q | q
  · omega
  · exact q.2
section
variable {b_size b_root b_refers b_found b_guard : Nat → Int32}
variable {Q : Nat → Prop} {p0 : Int32}
theorem ky_58 {post : SY → Prop} {J : Int32 → Int32 → (Nat → Int32) → (Nat → Int32) → (Nat → Int32) → (Nat → Int32) → (Nat → Int32) → Prop} {x3 : Int32} {c0 : Nat} (hQ : ∀ o, o < 16 → (nI o = p0 ↔ ¬ Q o))
    (K : ∀ (x2 : Int32) (fo : Nat → Int32), ky_S (ky_E b_root b_refers) Q fo → ((x2 = 0 ∧ ky_C (ky_E b_root b_refers) Q fo) ∨ (x2 = 1 ∧ c0 + 1 ≤ ky_cnt fo)) → J x2 (x3 + 1) b_size b_root b_refers fo b_guard) :
    ∀ N r, r ≤ 256 → 256 - r < N → ∀ (x2 : Int32) (fo : Nat → Int32), ky_S (ky_E b_root b_refers) Q fo → ((x2 = 0 ∧ c0 ≤ ky_cnt fo ∧ ∀ r', r' < r → ¬ b_refers r' = 0 → ¬ fo (r' / 16) = 0 → Q (r' % 16) → ¬ fo (r' % 16) = 0) ∨ (x2 = 1 ∧ c0 + 1 ≤ ky_cnt fo)) →
    wY_find_58 post J p0 x3 N x2 (nI r) b_size b_root b_refers fo b_guard := by
  intro N
  induction N with
  | zero => intro r _ h; omega
  | succ N ih =>
    intro r hr hN x2 fo S H
    rcases Nat.eq_or_lt_of_le hr with e | e
    · subst e
      refine br_t (nI_le (a := 256) (Nat.le_refl 256) (by decide)) (nm_e ?_)
      refine K x2 fo S ?_
      rcases H with ⟨h1, h2, h3⟩ | h
      · refine Or.inl ⟨h1, ?_⟩
        intro v w hv hw hE hq hf
        have hr : ¬ b_refers (16 * v + w) = 0 := by
          rcases hE.2 with ⟨z, _⟩ | ⟨_, z⟩
          · omega
          · exact z
        have e1 : (16 * v + w) / 16 = v := by omega
        have e2 : (16 * v + w) % 16 = w := by omega
        have := h3 (16 * v + w) (by omega) hr
        rw [e1, e2] at this
        exact this hf hq
      · exact Or.inr h
    · have ed : nI r / 16 = nI (r / 16) := pk_div (d := 16) (by omega) (by omega) (by omega)
      have em : nI r - nI r / 16 * 16 = nI (r % 16) := pk_rem (d := 16) (by omega) (by omega) (by omega)
      have skip : ∀ {z : Int32}, z = nI r + 1 → ((¬ b_refers r = 0 → ¬ fo (r / 16) = 0 → Q (r % 16) → ¬ fo (r % 16) = 0)) → wY_find_58 post J p0 x3 N x2 z b_size b_root b_refers fo b_guard := by
        intro z ez hh
        rw [ez, nI_1]
        refine ih (r + 1) (by omega) (by omega) x2 fo S ?_
        rcases H with ⟨h1, h2, h3⟩ | h
        · refine Or.inl ⟨h1, h2, fun r' hr' => ?_⟩
          by_cases q : r' = r
          · subst q; exact hh
          · exact h3 r' (by omega)
        · exact Or.inr h
      refine br_f (nI_ge (b := 256) e (by decide)) ⟨by decide, ?_⟩
      rw [em, ed, nI_clamp (n := r) (by omega), nI_clamp (n := r / 16) (by omega)]
      refine nm_e ⟨pk_in r 256 e, ?_⟩
      refine br_c (fun h1 z ez => skip ez (fun q => absurd h1 q)) (fun h1 => ⟨by decide, pk_in (r / 16) 16 (by omega), ?_⟩)
      refine br_c (fun h2 z ez => skip ez (fun _ q => absurd h2 q)) (fun h2 => ⟨pk_in (r % 16) 16 (by omega), ?_⟩)
      rw [nI_clamp (n := r % 16) (by omega)]
      refine br_c (fun h3 => ?_) (fun h3 z ez => skip ez (fun _ _ _ => h3))
      refine br_c (fun h4 z ez => skip ez (fun _ _ q => absurd q ((hQ (r % 16) (by omega)).mp h4))) (fun h4 => ⟨pk_in (r % 16) 16 (by omega), ?_⟩)
      rw [ky_b1]
      refine nm_e (nm_r (nI_1 r) ?_)
      have hq : Q (r % 16) := by
        by_cases c : Q (r % 16)
        · exact c
        · exact absurd ((hQ (r % 16) (by omega)).mpr c) h4
      refine ih (r + 1) (by omega) (by omega) 1 (upd fo (r % 16) 1) ?_ ?_
      · refine ⟨fun o ho => ?_, fun w hw hE hqw => ?_⟩
        · by_cases q : o = r % 16
          · subst q
            rw [pk_us]
            refine ⟨Or.inr rfl, fun _ => ?_⟩
            obtain ⟨m, hm⟩ := (S.1 (r / 16) (by omega)).2 h2
            refine ⟨m + 1, kt_pt_s hm ⟨by omega, Or.inr ⟨by omega, ?_⟩⟩ hq⟩
            have e3 : 16 * (r / 16) + r % 16 = r := by omega
            rw [e3]; exact h1
          · rw [pk_un q]; exact S.1 o ho
        · by_cases q : w = r % 16
          · rw [q, pk_us]; decide
          · rw [pk_un q]; exact S.2 w hw hE hqw
      · refine Or.inr ⟨rfl, ?_⟩
        have := kt_cn_fl (p := fun o => decide (¬ upd fo (r % 16) 1 o = 0)) (q := fun o => decide (¬ fo o = 0)) (w := r % 16) (by show decide (¬ upd fo (r % 16) 1 (r % 16) = 0) = true; rw [pk_us]; decide) (decide_eq_false (fun z => z h3)) 16 (by omega) (fun i _ hi => by show decide (¬ upd fo (r % 16) 1 i = 0) = decide (¬ fo i = 0); rw [pk_un hi])
        have h5 : ky_cnt (upd fo (r % 16) 1) = ky_cnt fo + 1 := this
        rcases H with ⟨_, h6, _⟩ | ⟨_, h6⟩
        · omega
        · omega
theorem ky_43 {post : SY → Prop} (hQ : ∀ o, o < 16 → (nI o = p0 ↔ ¬ Q o))
    (K : ∀ fo : Nat → Int32, (∀ o, o < 16 → fo o = 0 ∨ fo o = 1) → (∀ o, o < 16 → (¬ fo o = 0 ↔ ∃ m, kt_pt (ky_E b_root b_refers) Q m 16 o)) → post (b_size, b_root, b_refers, fo, b_guard)) :
    ∀ N k, k ≤ 16 → 16 - k < N → ∀ (x2 : Int32) (fo : Nat → Int32), ky_S (ky_E b_root b_refers) Q fo → ((x2 = 0 ∧ ky_C (ky_E b_root b_refers) Q fo) ∨ (x2 = 1 ∧ k ≤ ky_cnt fo)) →
    wY_find_43 post p0 N x2 (nI k) b_size b_root b_refers fo b_guard := by
  have fin : ∀ fo : Nat → Int32, ky_S (ky_E b_root b_refers) Q fo → ky_C (ky_E b_root b_refers) Q fo → post (b_size, b_root, b_refers, fo, b_guard) := fun fo S C => K fo (fun o ho => (S.1 o ho).1) (ky_cl S C)
  intro N
  induction N with
  | zero => intro k _ h; omega
  | succ N ih =>
    intro k hk hN x2 fo S H
    rcases Nat.eq_or_lt_of_le hk with e | e
    · subst e
      refine br_t (nI_le (a := 16) (Nat.le_refl 16) (by decide)) (fin fo S ?_)
      rcases H with h | h
      · exact h.2
      · intro v w hv hw _ _ _
        have := kt_cn_fu (p := fun o => decide (¬ fo o = 0)) 16 h.2 w hw
        exact of_decide_eq_true this
    · refine br_f (nI_ge (b := 16) e (by decide)) ?_
      rcases H with ⟨h1, h2⟩ | ⟨h1, h2⟩
      · exact br_t h1 (fin fo S h2)
      · refine br_f (by rw [h1]; decide) ⟨257, ?_⟩
        refine ky_58 (Q := Q) (c0 := k) hQ ?_ 257 0 (by omega) (by omega) 0 fo S (Or.inl ⟨rfl, h2, fun r' hr' => by omega⟩)
        intro x2 fo S H
        rw [nI_1]
        exact ih (k + 1) (by omega) (by omega) x2 fo S H
theorem ky_2 {post : SY → Prop} (hQ : ∀ o, o < 16 → (nI o = p0 ↔ ¬ Q o))
    (K : ∀ fo : Nat → Int32, (∀ o, o < 16 → fo o = 0 ∨ fo o = 1) → (∀ o, o < 16 → (¬ fo o = 0 ↔ ∃ m, kt_pt (ky_E b_root b_refers) Q m 16 o)) → post (b_size, b_root, b_refers, fo, b_guard)) :
    ∀ N i, i ≤ 16 → 16 - i < N → ∀ fo : Nat → Int32, (∀ o, o < i → (fo o = 0 ∨ fo o = 1) ∧ (¬ fo o = 0 ↔ (¬ b_root o = 0 ∧ Q o))) →
    wY_find_2 post p0 N (nI i) b_size b_root b_refers fo b_guard := by
  intro N
  induction N with
  | zero => intro i _ h; omega
  | succ N ih =>
    intro i hi hN fo H
    rcases Nat.eq_or_lt_of_le hi with e | e
    · subst e
      refine br_t (nI_le (a := 16) (Nat.le_refl 16) (by decide)) ⟨17, ?_⟩
      refine ky_43 (Q := Q) hQ K 17 0 (by omega) (by omega) 1 fo ⟨fun o ho => ⟨(H o ho).1, fun h => ?_⟩, fun w hw hE hq => ?_⟩ (Or.inr ⟨rfl, by omega⟩)
      · have := (H o ho).2.mp h
        exact ⟨1, kt_pt_s (k := 0) (z := 16) rfl ⟨ho, Or.inl ⟨rfl, this.1⟩⟩ this.2⟩
      · refine (H w hw).2.mpr ⟨?_, hq⟩
        rcases hE.2 with ⟨_, z⟩ | ⟨z, _⟩
        · exact z
        · omega
    · refine br_f (nI_ge (b := 16) e (by decide)) ⟨pk_in i 16 e, ?_⟩
      rw [nI_clamp (n := i) (by omega), ky_b0, ky_b1]
      have nx : ∀ {z : Int32} {fo' : Nat → Int32} {x : Int32}, fo' = upd fo i x → z = nI i + 1 → (x = 0 ∨ x = 1) → (¬ x = 0 ↔ (¬ b_root i = 0 ∧ Q i)) → wY_find_2 post p0 N z b_size b_root b_refers fo' b_guard := by
        intro z fo' x ef ez h1 h2
        rw [ez, nI_1, ef]
        refine ih (i + 1) (by omega) (by omega) _ ?_
        intro o ho
        by_cases q : o = i
        · subst q; rw [pk_us]; exact ⟨h1, h2⟩
        · rw [pk_un q]; exact H o (by omega)
      refine br_c (fun h1 => ⟨pk_in i 16 e, fun fo' ef z ez => ?_⟩) (fun h1 => ?_)
      · exact nx ef ez (Or.inl rfl) ⟨fun q => absurd rfl q, fun q => absurd h1 q.1⟩
      · refine br_c (fun h2 => ⟨pk_in i 16 e, fun fo' ef z ez => ?_⟩) (fun h2 => ⟨pk_in i 16 e, fun fo' ef z ez => ?_⟩)
        · exact nx ef ez (Or.inl rfl) ⟨fun q => absurd rfl q, fun q => absurd q.2 ((hQ i e).mp h2)⟩
        · refine nx ef ez (Or.inr rfl) ⟨fun _ => ⟨h1, ?_⟩, fun _ => by decide⟩
          by_cases c : Q i
          · exact c
          · exact absurd ((hQ i e).mpr c) h2
theorem ky_fd {post : SY → Prop} (hQ : ∀ o, o < 16 → (nI o = p0 ↔ ¬ Q o))
    (K : ∀ fo : Nat → Int32, (∀ o, o < 16 → fo o = 0 ∨ fo o = 1) → (∀ o, o < 16 → (¬ fo o = 0 ↔ ∃ m, kt_pt (ky_E b_root b_refers) Q m 16 o)) → post (b_size, b_root, b_refers, fo, b_guard)) :
    wpY_find post (b_size, b_root, b_refers, b_found, b_guard) p0 := by
  refine Exists.intro 17 ?_
  exact ky_2 (Q := Q) hQ K 17 0 (by omega) (by omega) b_found (fun o ho => by omega)
/-- find(-1): what is alive -/
theorem ky_fa {post : SY → Prop}
    (K : ∀ fo : Nat → Int32, (∀ o, o < 16 → fo o = 0 ∨ fo o = 1) → (∀ o, o < 16 → (¬ fo o = 0 ↔ kv_al (ky_E b_root b_refers) o)) → post (b_size, b_root, b_refers, fo, b_guard)) :
    wpY_find post (b_size, b_root, b_refers, b_found, b_guard) (-1) :=
  ky_fd (Q := fun _ => True) (fun o ho => ⟨fun h => absurd h (kb_nm (by omega)), fun h => absurd trivial h⟩) K
/-- find(k): what is found without k -/
theorem ky_fk {post : SY → Prop} {k : Nat} (hk : k < 16)
    (K : ∀ fo : Nat → Int32, (∀ o, o < 16 → fo o = 0 ∨ fo o = 1) → (∀ o, o < 16 → (¬ fo o = 0 ↔ kv_av (ky_E b_root b_refers) k o)) → post (b_size, b_root, b_refers, fo, b_guard)) :
    wpY_find post (b_size, b_root, b_refers, b_found, b_guard) (nI k) := by
  refine ky_fd (Q := fun x => x ≠ k) (fun o ho => ?_) (fun fo h1 h2 => K fo h1 (fun o ho => ?_))
  · rw [nI_eq (by omega) (by omega)]
    exact ⟨fun h z => z h, fun h => Decidable.byContradiction h⟩
  · rw [h2 o ho]
    exact ⟨fun h => ⟨by omega, h⟩, fun h => h.2⟩
theorem ky_65 {post : SY → Prop} {g0 : Nat → Int32}
    (K : ∀ gu : Nat → Int32, (∀ j, j < 256 → (¬ gu j = 0 ↔ (¬ g0 j = 0 ∧ ¬ b_found (j % 16) = 0))) → post (b_size, b_root, b_refers, b_found, gu)) :
    ∀ N i, i ≤ 256 → 256 - i < N → ∀ gu : Nat → Int32, (∀ j, j < i → (¬ gu j = 0 ↔ (¬ g0 j = 0 ∧ ¬ b_found (j % 16) = 0))) → (∀ j, i ≤ j → gu j = g0 j) →
    wY_gather_65 post N (nI i) b_size b_root b_refers b_found gu := by
  intro N
  induction N with
  | zero => intro i _ h; omega
  | succ N ih =>
    intro i hi hN gu H H2
    rcases Nat.eq_or_lt_of_le hi with e | e
    · subst e
      exact br_t (nI_le (a := 256) (Nat.le_refl 256) (by decide)) (K gu H)
    · have em : nI i - nI i / 16 * 16 = nI (i % 16) := pk_rem (d := 16) (by omega) (by omega) (by omega)
      refine br_f (nI_ge (b := 256) e (by decide)) ⟨pk_in i 256 e, ?_⟩
      rw [em, nI_clamp (n := i) (by omega), nI_clamp (n := i % 16) (by omega), ky_b0, ky_b1, H2 i (Nat.le_refl i)]
      have nx : ∀ {z : Int32} {gu' : Nat → Int32} {x : Int32}, gu' = upd gu i x → z = nI i + 1 → (¬ x = 0 ↔ (¬ g0 i = 0 ∧ ¬ b_found (i % 16) = 0)) → wY_gather_65 post N z b_size b_root b_refers b_found gu' := by
        intro z gu' x ef ez h1
        rw [ez, nI_1, ef]
        refine ih (i + 1) (by omega) (by omega) _ ?_ ?_
        · intro o ho
          by_cases q : o = i
          · subst q; rw [pk_us]; exact h1
          · rw [pk_un q]; exact H o (by omega)
        · intro j hj
          rw [pk_un (by omega)]; exact H2 j (by omega)
      refine br_c (fun h1 => ⟨pk_in i 256 e, fun gu' ef z ez => ?_⟩) (fun h1 => ⟨by decide, pk_in (i % 16) 16 (by omega), ?_⟩)
      · exact nx ef ez ⟨fun q => absurd rfl q, fun q => absurd h1 q.1⟩
      · refine br_c (fun h2 => ⟨pk_in i 256 e, fun fo' ef z ez => ?_⟩) (fun h2 => ⟨pk_in i 256 e, fun fo' ef z ez => ?_⟩)
        · exact nx ef ez ⟨fun q => absurd rfl q, fun q => absurd h2 q.2⟩
        · exact nx ef ez ⟨fun _ => ⟨h1, h2⟩, fun _ => by decide⟩
theorem ky_15 {post : SY → Prop} {J : Int32 → (Nat → Int32) → (Nat → Int32) → (Nat → Int32) → (Nat → Int32) → (Nat → Int32) → Prop} {k : Nat} {g0 : Nat → Int32} (hk : k < 16)
    (K : ∀ gu : Nat → Int32, (∀ o, o < 16 → (¬ gu (16 * k + o) = 0 ↔ b_found o = 0)) → (∀ j, j < 16 * k → gu j = g0 j) → J (nI (k + 1)) b_size b_root b_refers b_found gu) :
    ∀ N i, i ≤ 16 → 16 - i < N → ∀ gu : Nat → Int32, (∀ o, o < i → (¬ gu (16 * k + o) = 0 ↔ b_found o = 0)) → (∀ j, j < 16 * k → gu j = g0 j) →
    wY_gather_15 post J (nI k) N (nI i) b_size b_root b_refers b_found gu := by
  intro N
  induction N with
  | zero => intro i _ h; omega
  | succ N ih =>
    intro i hi hN gu H H2
    rcases Nat.eq_or_lt_of_le hi with e | e
    · subst e
      exact br_t (nI_le (a := 16) (Nat.le_refl 16) (by decide)) (nm_r (nI_1 k) (K gu H H2))
    · refine br_f (nI_ge (b := 16) e (by decide)) ⟨pk_in i 16 e, ?_⟩
      rw [ky_ix, nI_clamp (n := i) (by omega), nI_clamp (n := 16 * k + i) (by omega), ky_b0, ky_b1]
      have nx : ∀ {z : Int32} {gu' : Nat → Int32} {x : Int32}, gu' = upd gu (16 * k + i) x → z = nI i + 1 → (¬ x = 0 ↔ b_found i = 0) → wY_gather_15 post J (nI k) N z b_size b_root b_refers b_found gu' := by
        intro z gu' x ef ez h1
        rw [ez, nI_1, ef]
        refine ih (i + 1) (by omega) (by omega) _ ?_ ?_
        · intro o ho
          by_cases q : o = i
          · subst q; rw [pk_us]; exact h1
          · rw [pk_un (by omega)]; exact H o (by omega)
        · intro j hj
          rw [pk_un (by omega)]; exact H2 j hj
      refine br_c (fun h1 => ⟨pk_in (16 * k + i) 256 (by omega), fun gu' ef z ez => ?_⟩) (fun h1 => ⟨pk_in (16 * k + i) 256 (by omega), fun gu' ef z ez => ?_⟩)
      · exact nx ef ez ⟨fun _ => h1, fun _ => by decide⟩
      · exact nx ef ez ⟨fun q => absurd rfl q, fun q => absurd q h1⟩
theorem ky_g2 {post : SY → Prop}
    (K : ∀ fo gu : Nat → Int32, (∀ k o, k < 16 → o < 16 → (¬ gu (16 * k + o) = 0 ↔ kv_D (ky_E b_root b_refers) k o)) → post (b_size, b_root, b_refers, fo, gu)) :
    ∀ N k, k ≤ 16 → 16 - k < N → ∀ fo gu : Nat → Int32, (∀ k' o, k' < k → o < 16 → (¬ gu (16 * k' + o) = 0 ↔ ¬ kv_av (ky_E b_root b_refers) k' o)) →
    wY_gather_2 post N (nI k) b_size b_root b_refers fo gu := by
  intro N
  induction N with
  | zero => intro k _ h; omega
  | succ N ih =>
    intro k hk hN fo gu H
    rcases Nat.eq_or_lt_of_le hk with e | e
    · subst e
      refine br_t (nI_le (a := 16) (Nat.le_refl 16) (by decide)) ?_
      refine ky_fa ?_
      intro fo h1 h2
      refine ⟨257, ?_⟩
      refine ky_65 (g0 := gu) ?_ 257 0 (by omega) (by omega) gu (fun j hj => by omega) (fun j _ => rfl)
      intro gu' h3
      refine K fo gu' (fun k o hk ho => ?_)
      have e2 : (16 * k + o) % 16 = o := by omega
      have := h3 (16 * k + o) (by omega)
      rw [e2] at this
      rw [this, H k o hk ho, h2 o ho]
      exact ⟨fun h => ⟨h.2, h.1⟩, fun h => ⟨h.2, h.1⟩⟩
    · refine br_f (nI_ge (b := 16) e (by decide)) ?_
      refine ky_fk e ?_
      intro fo h1 h2
      refine ⟨17, ?_⟩
      refine ky_15 (g0 := gu) e ?_ 17 0 (by omega) (by omega) gu (fun o ho => by omega) (fun j _ => rfl)
      intro gu' h3 h4
      refine ih (k + 1) (by omega) (by omega) fo gu' ?_
      intro k' o hk' ho
      by_cases q : k' = k
      · subst q
        rw [h3 o ho, ← h2 o ho]
        exact ⟨fun h z => z h, fun h => Decidable.byContradiction h⟩
      · rw [h4 (16 * k' + o) (by omega)]
        exact H k' o (by omega) ho
/-- gather: guard is domination -/
theorem ky_ga {post : SY → Prop}
    (K : ∀ fo gu : Nat → Int32, (∀ k o, k < 16 → o < 16 → (¬ gu (16 * k + o) = 0 ↔ kv_D (ky_E b_root b_refers) k o)) → post (b_size, b_root, b_refers, fo, gu)) :
    wpY_gather post (b_size, b_root, b_refers, b_found, b_guard) := by
  refine Exists.intro 17 ?_
  exact ky_g2 K 17 0 (by omega) (by omega) b_found b_guard (fun k' o h => by omega)
end
end
section
/-! 11: the reference: both, last, heldBy, depth, total -/
def ky_Sb (gu : Nat → Int32) (a b : Nat) (p3 : Int32) (g : Nat) : Prop := ¬ gu (16 * g + a) = 0 ∧ ¬ gu (16 * g + b) = 0 ∧ (p3 = 0 ∨ g ≠ a)
section
variable {b_size b_root b_refers b_found b_guard : Nat → Int32}
theorem ky_bo {post : Int32 → Prop} {g a b : Nat} {p3 : Int32} (hg : g < 16) (ha : a < 16) (hb : b < 16) (K1 : ky_Sb b_guard a b p3 g → post 1) (K0 : ¬ ky_Sb b_guard a b p3 g → post 0) : wpY_both post (b_size, b_root, b_refers, b_found, b_guard) (nI g) (nI a) (nI b) p3 := by
  refine And.intro (pk_in (16 * g + a) 256 (by omega) (ky_ix g a)) ?_
  rw [ky_ix, ky_ix, nI_clamp (n := 16 * g + a) (by omega), nI_clamp (n := 16 * g + b) (by omega)]
  refine br_c (fun h => K0 (fun z => z.1 h)) (fun h1 => ⟨pk_in (16 * g + b) 256 (by omega), ?_⟩)
  refine br_c (fun h => K0 (fun z => z.2.1 h)) (fun h2 => ?_)
  refine br_c (fun h => K1 ⟨h1, h2, Or.inl h⟩) (fun h3 => ?_)
  refine pk_eq g a (fun h => K0 (fun z => z.2.2.elim h3 (fun q => q h))) (fun h => K1 ⟨h1, h2, Or.inr h⟩)
theorem ky_24 {post : Int32 → Prop} {J : Int32 → Prop} {a b g : Nat} {p3 : Int32} (hg : g < 16) (ha : a < 16) (hb : b < 16)
    (K1 : ky_Sb b_guard a b p3 g → (∀ h, h < 16 → ky_Sb b_guard a b p3 h → ¬ b_guard (16 * h + g) = 0) → post (nI g)) (K0 : ¬ (ky_Sb b_guard a b p3 g ∧ ∀ h, h < 16 → ky_Sb b_guard a b p3 h → ¬ b_guard (16 * h + g) = 0) → J (nI (g + 1))) :
    ∀ N i, i ≤ 16 → 16 - i < N → ∀ x5 : Int32, (¬ x5 = 0 ↔ (ky_Sb b_guard a b p3 g ∧ ∀ h, h < i → ky_Sb b_guard a b p3 h → ¬ b_guard (16 * h + g) = 0)) →
    wY_last_24 post J (nI a) (nI b) p3 (nI g) b_size b_root b_refers b_found b_guard N x5 (nI i) := by
  intro N
  induction N with
  | zero => intro i _ h; omega
  | succ N ih =>
    intro i hi hN x5 H
    rcases Nat.eq_or_lt_of_le hi with e | e
    · subst e
      refine br_t (nI_le (a := 16) (Nat.le_refl 16) (by decide)) ?_
      refine br_c (fun h => nm_r (nI_1 g) (K0 (fun z => H.mpr z h))) (fun h => ?_)
      have := H.mp h
      exact K1 this.1 this.2
    · have ext : ∀ {z : Int32} (x : Int32), z = nI i + 1 → (¬ x = 0 ↔ (¬ x5 = 0 ∧ (ky_Sb b_guard a b p3 i → ¬ b_guard (16 * i + g) = 0))) → wY_last_24 post J (nI a) (nI b) p3 (nI g) b_size b_root b_refers b_found b_guard N x z := by
        intro z x ez h1
        rw [ez, nI_1]
        refine ih (i + 1) (by omega) (by omega) x (h1.trans ?_)
        rw [H]
        constructor
        · rintro ⟨⟨h2, h3⟩, h4⟩
          refine ⟨h2, fun h hh => ?_⟩
          by_cases q : h = i
          · subst q; exact h4
          · exact h3 h (by omega)
        · rintro ⟨h2, h3⟩
          exact ⟨⟨h2, fun h hh => h3 h (by omega)⟩, h3 i (by omega)⟩
      refine br_f (nI_ge (b := 16) e (by decide)) ?_
      refine ky_bo e ha hb (fun h1 => ?_) (fun h1 => ?_)
      · refine br_f (by decide) ⟨pk_in (16 * i + g) 256 (by omega) (ky_ix i g), ?_⟩
        rw [ky_ix, nI_clamp (n := 16 * i + g) (by omega)]
        refine br_c (fun h2 z ez => ext 0 ez ?_) (fun h2 z ez => ext x5 ez ?_)
        · exact ⟨fun q => absurd rfl q, fun q => absurd h2 (q.2 h1)⟩
        · exact ⟨fun q => ⟨q, fun _ => h2⟩, fun q => q.1⟩
      · refine br_t rfl (fun z ez => ext x5 ez ?_)
        exact ⟨fun q => ⟨q, fun q2 => absurd q2 h1⟩, fun q => q.1⟩
theorem ky_la {post : Int32 → Prop} {a b z : Nat} {p3 : Int32} (ha : a < 16) (hb : b < 16) (hz : ∀ g, g < 16 → ((ky_Sb b_guard a b p3 g ∧ ∀ h, h < 16 → ky_Sb b_guard a b p3 h → ¬ b_guard (16 * h + g) = 0) ↔ g = z)) (K : post (if z < 16 then nI z else -1)) : wpY_last post (b_size, b_root, b_refers, b_found, b_guard) (nI a) (nI b) p3 := by
  have key : ∀ N i, i ≤ 16 → 16 - i < N → (∀ g, g < i → g ≠ z) → wY_last_3 post (nI a) (nI b) p3 b_size b_root b_refers b_found b_guard N (nI i) := by
    intro N
    induction N with
    | zero => intro i _ h; omega
    | succ N ih =>
      intro i hi hN H
      rcases Nat.eq_or_lt_of_le hi with e | e
      · subst e
        refine br_t (nI_le (a := 16) (Nat.le_refl 16) (by decide)) ?_
        rw [if_neg (fun q => H z q rfl)] at K
        exact K
      · refine br_f (nI_ge (b := 16) e (by decide)) ?_
        have tail : ∀ x5 : Int32, (¬ x5 = 0 ↔ ky_Sb b_guard a b p3 i) → wY_last_24 post (wY_last_3 post (nI a) (nI b) p3 b_size b_root b_refers b_found b_guard N) (nI a) (nI b) p3 (nI i) b_size b_root b_refers b_found b_guard 17 x5 0 := by
          intro x5 h5
          refine ky_24 e ha hb (fun h1 h2 => ?_) (fun h1 => ?_) 17 0 (by omega) (by omega) x5 ?_
          · have q := (hz i e).mp ⟨h1, h2⟩
            subst q
            rw [if_pos e] at K
            exact K
          · refine ih (i + 1) (by omega) (by omega) ?_
            intro g hg
            by_cases q : g = i
            · subst q; exact fun y => h1 ((hz g e).mpr y)
            · exact H g (by omega)
          · exact h5.trans ⟨fun q => ⟨q, fun h hh => by omega⟩, fun q => q.1⟩
        refine ky_bo e ha hb (fun h1 => ⟨17, tail 1 ⟨fun _ => h1, fun _ => by decide⟩⟩) (fun h1 => ⟨17, tail 0 ⟨fun q => absurd rfl q, fun q => absurd q h1⟩⟩)
  exact Exists.intro 17 (key 17 0 (by omega) (by omega) (fun g hg => by omega))
theorem ky_hb {post : Int32 → Prop} {k : Nat} (hk : k < 16) (K : post (kt_sum b_size (fun o => decide (¬ b_guard (16 * k + o) = 0)) 16)) : wpY_heldBy post (b_size, b_root, b_refers, b_found, b_guard) (nI k) := by
  have key : ∀ N i, i ≤ 16 → 16 - i < N → wY_heldBy_4 post (nI k) b_size b_root b_refers b_found b_guard N (kt_sum b_size (fun o => decide (¬ b_guard (16 * k + o) = 0)) i) (nI i) := by
    intro N
    induction N with
    | zero => intro i _ h; omega
    | succ N ih =>
      intro i hi hN
      rcases Nat.eq_or_lt_of_le hi with e | e
      · subst e
        exact br_t (nI_le (a := 16) (Nat.le_refl 16) (by decide)) K
      · have nx := ih (i + 1) (by omega) (by omega)
        have es : kt_sum b_size (fun o => decide (¬ b_guard (16 * k + o) = 0)) (i + 1) = kt_sum b_size (fun o => decide (¬ b_guard (16 * k + o) = 0)) i + (if decide (¬ b_guard (16 * k + i) = 0) = true then b_size i else 0) := rfl
        refine br_f (nI_ge (b := 16) e (by decide)) ⟨pk_in (16 * k + i) 256 (by omega) (ky_ix k i), ?_⟩
        rw [ky_ix, nI_clamp (n := 16 * k + i) (by omega), nI_clamp (n := i) (by omega)]
        refine br_c (fun h => nm_r (nI_1 i) ?_) (fun h => ⟨pk_in i 16 e, fun x ex z ez => ?_⟩)
        · rw [es, if_neg (by rw [decide_eq_true_iff]; exact fun q => q h), Int32.add_zero] at nx
          exact nx
        · rw [es, if_pos (decide_eq_true h)] at nx
          rw [ex, ez, nI_1]
          exact nx
  exact Exists.intro 17 (key 17 0 (by omega) (by omega))
theorem ky_dp {post : Int32 → SY → Prop} {a : Nat} (ha : a < 16) (K : post (nI (kt_cn (fun k => decide (¬ b_guard (16 * k + a) = 0)) 16)) (b_size, b_root, b_refers, b_found, b_guard)) : ∃ N, wY_depth_18 post (nI a) b_size b_root b_refers b_found b_guard N 0 0 := by
  have key : ∀ N i, i ≤ 16 → 16 - i < N → wY_depth_18 post (nI a) b_size b_root b_refers b_found b_guard N (nI (kt_cn (fun k => decide (¬ b_guard (16 * k + a) = 0)) i)) (nI i) := by
    intro N
    induction N with
    | zero => intro i _ h; omega
    | succ N ih =>
      intro i hi hN
      rcases Nat.eq_or_lt_of_le hi with e | e
      · subst e
        exact br_t (nI_le (a := 16) (Nat.le_refl 16) (by decide)) K
      · have nx := ih (i + 1) (by omega) (by omega)
        have es : kt_cn (fun k => decide (¬ b_guard (16 * k + a) = 0)) (i + 1) = kt_cn (fun k => decide (¬ b_guard (16 * k + a) = 0)) i + (if decide (¬ b_guard (16 * i + a) = 0) = true then 1 else 0) := rfl
        refine br_f (nI_ge (b := 16) e (by decide)) ⟨pk_in (16 * i + a) 256 (by omega) (ky_ix i a), ?_⟩
        rw [ky_ix, nI_clamp (n := 16 * i + a) (by omega)]
        refine br_c (fun h => nm_r (nI_1 i) ?_) (fun h => fun x ex z ez => ?_)
        · rw [es, if_neg (by rw [decide_eq_true_iff]; exact fun q => q h), Nat.add_zero] at nx
          exact nx
        · rw [es, if_pos (decide_eq_true h)] at nx
          rw [ex, ez, nI_1, nI_1]
          exact nx
  exact ⟨17, key 17 0 (by omega) (by omega)⟩
theorem ky_to {post : Int32 → SY → Prop} (K : post (kt_sum b_size (fun o => decide (¬ b_found o = 0)) 16) (b_size, b_root, b_refers, b_found, b_guard)) : ∃ N, wY_total_9 post b_size b_root b_refers b_found b_guard N 0 0 := by
  have key : ∀ N i, i ≤ 16 → 16 - i < N → wY_total_9 post b_size b_root b_refers b_found b_guard N (kt_sum b_size (fun o => decide (¬ b_found o = 0)) i) (nI i) := by
    intro N
    induction N with
    | zero => intro i _ h; omega
    | succ N ih =>
      intro i hi hN
      rcases Nat.eq_or_lt_of_le hi with e | e
      · subst e
        exact br_t (nI_le (a := 16) (Nat.le_refl 16) (by decide)) K
      · have nx := ih (i + 1) (by omega) (by omega)
        have es : kt_sum b_size (fun o => decide (¬ b_found o = 0)) (i + 1) = kt_sum b_size (fun o => decide (¬ b_found o = 0)) i + (if decide (¬ b_found i = 0) = true then b_size i else 0) := rfl
        refine br_f (nI_ge (b := 16) e (by decide)) ⟨pk_in i 16 e, ?_⟩
        rw [nI_clamp (n := i) (by omega)]
        refine br_c (fun h => nm_r (nI_1 i) ?_) (fun h => ⟨pk_in i 16 e, fun x ex z ez => ?_⟩)
        · rw [es, if_neg (by rw [decide_eq_true_iff]; exact fun q => q h), Int32.add_zero] at nx
          exact nx
        · rw [es, if_pos (decide_eq_true h)] at nx
          rw [ex, ez, nI_1]
          exact nx
  exact ⟨17, key 17 0 (by omega) (by omega)⟩
end
end
section
/-! 12: what the finished tree gives to the queries -/
def kv_T (E : Nat → Nat → Prop) (K dp : Nat → Nat) : Prop := (∀ v, v < 17 → kv_al E v → v ≠ 16 → K v < 17 ∧ kv_al E (K v) ∧ dp v = dp (K v) + 1 ∧ ∀ k, k < 17 → (kv_D E k v ↔ (k = v ∨ kv_D E k (K v)))) ∧ dp 16 = 0
section
variable {E : Nat → Nat → Prop} {K dp : Nat → Nat}
theorem kq_dp (H : kv_T E K dp) : ∀ m v, dp v = m → v < 17 → kv_al E v → ∀ k, k < 17 → kv_D E k v → (k = v ∨ dp k < dp v) ∧ kv_al E k := by
  intro m
  induction m using Nat.strongRecOn with
  | ind m ih =>
    intro v em hv hal k hk hd
    by_cases e : v = 16
    · subst e
      have := (kv_D16 E k).mp hd
      subst this
      exact ⟨Or.inl rfl, hal⟩
    · obtain ⟨h1, h2, h3, h4⟩ := H.1 v hv hal e
      rcases (h4 k hk).mp hd with q | q
      · subst q; exact ⟨Or.inl rfl, hal⟩
      · obtain ⟨a, b⟩ := ih (dp (K v)) (by omega) (K v) rfl h1 h2 k hk q
        refine ⟨Or.inr ?_, b⟩
        rcases a with z | z
        · rw [z]; omega
        · omega
theorem kq_rf (H : kv_T E K dp) {v : Nat} (hv : v < 17) (hal : kv_al E v) : kv_D E v v := by
  by_cases e : v = 16
  · subst e; exact (kv_D16 E 16).mpr rfl
  · exact ((H.1 v hv hal e).2.2.2 v hv).mpr (Or.inl rfl)
theorem kq_as (H : kv_T E K dp) {k v : Nat} (hk : k < 17) (hv : v < 17) (h1 : kv_D E k v) (h2 : kv_D E v k) : k = v := by
  rcases (kq_dp H _ v rfl hv h1.1 k hk h1).1 with q | q
  · exact q
  · rcases (kq_dp H _ k rfl hk h2.1 v hv h2).1 with z | z
    · exact z.symm
    · omega
theorem kq_z (H : kv_T E K dp) {gu : Nat → Int32} (hgu : ∀ k o, k < 16 → o < 16 → (¬ gu (16 * k + o) = 0 ↔ kv_D E k o)) {a b z : Nat} {p3 : Int32} (hz : z < 17) (haz : kv_al E z) (hS : ∀ g, g < 16 → (ky_Sb gu a b p3 g ↔ kv_D E g z)) : ∀ g, g < 16 → ((ky_Sb gu a b p3 g ∧ ∀ h, h < 16 → ky_Sb gu a b p3 h → ¬ gu (16 * h + g) = 0) ↔ g = z) := by
  intro g hg
  constructor
  · rintro ⟨h1, h2⟩
    have h3 := (hS g hg).mp h1
    by_cases c : z < 16
    · have h4 := (hgu z g c hg).mp (h2 z c ((hS z c).mpr (kq_rf H hz haz)))
      exact kq_as H (by omega) hz h3 h4
    · have e : z = 16 := by omega
      subst e
      exact (kv_D16 E g).mp h3
  · intro e
    subst e
    refine ⟨(hS g hg).mpr (kq_rf H hz haz), fun h hh hs => ?_⟩
    exact (hgu h g hh hg).mpr ((hS h hh).mp hs)
theorem kq_no {gu : Nat → Int32} {a b : Nat} {p3 : Int32} (hS : ∀ g, g < 16 → ¬ ky_Sb gu a b p3 g) : ∀ g, g < 16 → ((ky_Sb gu a b p3 g ∧ ∀ h, h < 16 → ky_Sb gu a b p3 h → ¬ gu (16 * h + g) = 0) ↔ g = 16) :=
  fun g hg => ⟨fun h => absurd h.1 (hS g hg), fun h => by omega⟩
theorem kq_kp (H : kv_T E K dp) {gu : Nat → Int32} (hgu : ∀ k o, k < 16 → o < 16 → (¬ gu (16 * k + o) = 0 ↔ kv_D E k o)) {o : Nat} (ho : o < 16) (hal : kv_al E o) : ∀ g, g < 16 → (ky_Sb gu o o 1 g ↔ kv_D E g (K o)) := by
  intro g hg
  obtain ⟨h1, h2, h3, h4⟩ := H.1 o (by omega) hal (by omega)
  unfold ky_Sb
  rw [hgu g o hg ho, h4 g (by omega)]
  constructor
  · rintro ⟨a, _, b⟩
    rcases a with q | q
    · exact absurd q (b.resolve_left (by decide))
    · exact q
  · intro q
    refine ⟨Or.inr q, Or.inr q, Or.inr (fun e => ?_)⟩
    subst e
    rcases (kq_dp H _ (K g) rfl h1 h2 g (by omega) q).1 with z | z
    · rw [← z] at h3; omega
    · omega
theorem kq_ct (H : kv_T E K dp) : ∀ m v, dp v = m → v < 17 → kv_al E v → kt_cn (fun k => kt_b (kv_D E k v)) 16 = dp v := by
  intro m
  induction m using Nat.strongRecOn with
  | ind m ih =>
    intro v em hv hal
    by_cases e : v = 16
    · subst e
      rw [H.2, kt_cn_cg 16 (q := fun _ => false) (fun i hi => kt_b_f (fun h => by have := (kv_D16 E i).mp h; omega)), kt_cn_0]
    · obtain ⟨h1, h2, h3, h4⟩ := H.1 v hv hal e
      have h5 := ih (dp (K v)) (by omega) (K v) rfl h1 h2
      rw [h3, ← h5]
      refine kt_cn_fl (w := v) (kt_b_t (kq_rf H hv hal)) (kt_b_f (fun q => ?_)) 16 (by omega) (fun i hi hne => kt_b_cg ?_)
      · rcases (kq_dp H _ (K v) rfl h1 h2 v hv q).1 with z | z
        · rw [← z] at h3; omega
        · omega
      · rw [h4 i (by omega)]
        exact ⟨fun q => q.resolve_left hne, Or.inr⟩
end
theorem kt_sum_0 {f : Nat → Int32} {p : Nat → Bool} : ∀ m, (∀ i, i < m → p i = false) → kt_sum f p m = 0 := by
  intro m
  induction m with
  | zero => intro _; rfl
  | succ m ih =>
    intro h
    show kt_sum f p m + (if p m = true then f m else 0) = 0
    rw [ih (fun i hi => h i (by omega)), h m (by omega), if_neg (by decide)]
    decide
theorem kt_sum_b {f : Nat → Int32} {p : Nat → Bool} : ∀ m, (∀ i, i < m → ∃ s, s ≤ 1000 ∧ f i = nI s) → ∃ t, t ≤ 1000 * m ∧ kt_sum f p m = nI t := by
  intro m
  induction m with
  | zero => intro _; exact ⟨0, Nat.le_refl _, rfl⟩
  | succ m ih =>
    intro h
    obtain ⟨t, ht, et⟩ := ih (fun i hi => h i (by omega))
    obtain ⟨s, hs, es⟩ := h m (by omega)
    have e : kt_sum f p (m + 1) = kt_sum f p m + (if p m = true then f m else 0) := rfl
    by_cases c : p m = true
    · exact ⟨t + s, by omega, by rw [e, if_pos c, et, es, nI_add]⟩
    · exact ⟨t, by omega, by rw [e, if_neg c, et, Int32.add_zero]⟩
theorem kq_sum {f g : Nat → Int32} {p q : Nat → Bool} (hf : f 16 = 0) (h : ∀ i, i < 16 → f i = g i ∧ p i = q i) : kt_sum f p 17 = kt_sum g q 16 := by
  have e : kt_sum f p 17 = kt_sum f p 16 + (if p 16 = true then f 16 else 0) := rfl
  rw [e, hf, kt_sum_cg 16 (fun i hi => ⟨(h i hi).2, fun _ => (h i hi).1⟩)]
  by_cases c : p 16 = true
  · rw [if_pos c, Int32.add_zero]
  · rw [if_neg c, Int32.add_zero]
section
variable {f_roots f_fresh f_reached : Int32} {a_sizeOf a_refers a_number a_order a_treeParent a_stack a_untried a_semi a_idom a_ancestor a_label a_path a_bucketHead a_bucketNext a_keeperOf a_depthOf a_heldBy a_first a_last : Nat → Int32}
variable {E : Nat → Nat → Prop} {K dp : Nat → Nat}
theorem kc_103 {post : Int32 → SX → Prop} {z : Nat} (hz : z < 17) (h : post (if z < 16 then nI z else -1) (f_roots, f_fresh, f_reached, a_sizeOf, a_refers, a_number, a_order, a_treeParent, a_stack, a_untried, a_semi, a_idom, a_ancestor, a_label, a_path, a_bucketHead, a_bucketNext, a_keeperOf, a_depthOf, a_heldBy, a_first, a_last)) : wX_common_103 post (nI z) f_roots f_fresh f_reached a_sizeOf a_refers a_number a_order a_treeParent a_stack a_untried a_semi a_idom a_ancestor a_label a_path a_bucketHead a_bucketNext a_keeperOf a_depthOf a_heldBy a_first a_last := by
  unfold wX_common_103 wpX_visible
  refine pk_eq z 16 (fun e => ?_) (fun e => ?_)
  · subst e
    rw [if_neg (by omega)] at h
    exact h
  · rw [if_pos (by omega)] at h
    exact h
theorem kc_49 {post : Int32 → SX → Prop} {a b : Nat} (H : kv_T E K dp) (hk : ∀ v, v < 17 → kv_al E v → v ≠ 16 → a_keeperOf v = nI (K v)) (hd : ∀ v, v < 17 → kv_al E v → a_depthOf v = nI (dp v) ∧ dp v ≤ 16)
    (Kp : ∀ z, z < 17 → kv_al E z → (∀ g, g < 17 → (kv_D E g z ↔ (kv_D E g a ∧ kv_D E g b))) → post (if z < 16 then nI z else -1) (f_roots, f_fresh, f_reached, a_sizeOf, a_refers, a_number, a_order, a_treeParent, a_stack, a_untried, a_semi, a_idom, a_ancestor, a_label, a_path, a_bucketHead, a_bucketNext, a_keeperOf, a_depthOf, a_heldBy, a_first, a_last)) :
    ∀ N x y step, dp x + dp y < N → step + dp x + dp y ≤ 32 → x < 17 → y < 17 → kv_al E x → kv_al E y → (∀ g, g < 17 → ((kv_D E g x ∧ kv_D E g y) ↔ (kv_D E g a ∧ kv_D E g b))) →
    wX_common_49 post f_roots f_fresh f_reached a_sizeOf a_refers a_number a_order a_treeParent a_stack a_untried a_semi a_idom a_ancestor a_label a_path a_bucketHead a_bucketNext a_keeperOf a_depthOf a_heldBy a_first a_last N (nI x) (nI y) (nI step) := by
  intro N
  induction N with
  | zero => intro x y step h; omega
  | succ N ih =>
    intro x y step hN hs hx hy hax hay hg
    obtain ⟨dx, dx2⟩ := hd x hx hax
    obtain ⟨dy, dy2⟩ := hd y hy hay
    refine br_f (nI_ge (b := 34) (by omega) (by decide)) ?_
    refine pk_eq x y (fun e => ?_) (fun e => ?_)
    · subst e
      exact kc_103 hx (Kp x hx hax (fun g hgb => ⟨fun h => (hg g hgb).mp ⟨h, h⟩, fun h => ((hg g hgb).mpr h).1⟩))
    · refine ⟨pk_in x 17 hx, pk_in y 17 hy, ?_⟩
      rw [nI_clamp (n := x) (by omega), nI_clamp (n := y) (by omega), dx, dy]
      refine pk_lt (dp x) (dp y) (fun hl => ?_) (fun hl => ?_)
      · have hy16 : y ≠ 16 := fun q => by rw [q, H.2] at hl; omega
        obtain ⟨h1, h2, h3, h4⟩ := H.1 y hy hay hy16
        refine ⟨pk_in y 17 hy, nm_r (hk y hy hay hy16) (nm_r (nI_1 step) ?_)⟩
        refine ih x (K y) (step + 1) (by omega) (by omega) hx h1 hax h2 (fun g hgb => ?_)
        rw [← hg g hgb, h4 g hgb]
        refine ⟨fun q => ⟨q.1, Or.inr q.2⟩, fun q => ⟨q.1, q.2.resolve_left (fun z => ?_)⟩⟩
        subst z
        rcases (kq_dp H _ x rfl hx hax g hy q.1).1 with z | z
        · exact e z.symm
        · omega
      · have hx16 : x ≠ 16 := by
          intro q
          have hy16 : y ≠ 16 := fun z => e (by rw [q, z])
          obtain ⟨_, _, h3, _⟩ := H.1 y hy hay hy16
          rw [q, H.2] at hl
          omega
        obtain ⟨h1, h2, h3, h4⟩ := H.1 x hx hax hx16
        refine ⟨pk_in x 17 hx, nm_r (hk x hx hax hx16) (nm_r (nI_1 step) ?_)⟩
        refine ih (K x) y (step + 1) (by omega) (by omega) h1 hy h2 hay (fun g hgb => ?_)
        rw [← hg g hgb, h4 g hgb]
        refine ⟨fun q => ⟨Or.inr q.1, q.2⟩, fun q => ⟨q.1.resolve_left (fun z => ?_), q.2⟩⟩
        subst z
        rcases (kq_dp H _ y rfl hy hay g hx q.2).1 with z | z
        · exact e z
        · omega
end
/-- what heaviest asks of the guards: X's number, keeper zf and held size -/
def kh_F (nu he sz gu : Nat → Int32) (zf : Nat → Nat) : Prop :=
  (∀ o, o < 16 → (¬ nu o < 0 ↔ ¬ gu (16 * o + o) = 0)) ∧ (∀ o, o < 16 → ¬ nu o < 0 → ∀ g, g < 16 → ((ky_Sb gu o o 1 g ∧ ∀ h, h < 16 → ky_Sb gu o o 1 h → ¬ gu (16 * h + g) = 0) ↔ g = zf o)) ∧ (∀ o, o < 16 → ¬ nu o < 0 → kt_sum sz (fun o' => decide (¬ gu (16 * o + o') = 0)) 16 = he o)
section
variable {f_roots f_fresh f_reached : Int32} {a_sizeOf a_refers a_number a_order a_treeParent a_stack a_untried a_semi a_idom a_ancestor a_label a_path a_bucketHead a_bucketNext a_keeperOf a_depthOf a_heldBy a_first a_last : Nat → Int32}
variable {b_size b_root b_refers b_found b_guard : Nat → Int32}
/-- heaviest, in lockstep -/
theorem kh_ls {zf : Nat → Nat} (F2 : ∀ o, o < 16 → ¬ a_number o < 0 → zf o < 17 ∧ a_keeperOf o = nI (zf o)) (F3 : ∀ o, o < 16 → ¬ a_number o < 0 → ∃ t, t ≤ 16000 ∧ a_heldBy o = nI t) :
    ∀ d i, i + d = 16 → ∀ best most : Int32, ((best = -1 ∧ most = -1) ∨ ∃ j, j < 16 ∧ ¬ a_number j < 0 ∧ best = nI j ∧ most = a_heldBy j) →
    ∃ r : Int32, (∀ postX : Int32 → SX → Prop, postX r (f_roots, f_fresh, f_reached, a_sizeOf, a_refers, a_number, a_order, a_treeParent, a_stack, a_untried, a_semi, a_idom, a_ancestor, a_label, a_path, a_bucketHead, a_bucketNext, a_keeperOf, a_depthOf, a_heldBy, a_first, a_last) → wX_heaviest_8 postX f_roots f_fresh f_reached a_sizeOf a_refers a_number a_order a_treeParent a_stack a_untried a_semi a_idom a_ancestor a_label a_path a_bucketHead a_bucketNext a_keeperOf a_depthOf a_heldBy a_first a_last (d + 1) best (nI i)) ∧ (∀ fo gu : Nat → Int32, kh_F a_number a_heldBy b_size gu zf → ∀ postY : Int32 → SY → Prop, postY r (b_size, b_root, b_refers, fo, gu) → wY_heaviest_10 postY b_size b_root b_refers fo gu (d + 1) best most (nI i)) := by
  intro d
  induction d with
  | zero =>
    intro i hi best most _
    have e : i = 16 := by omega
    subst e
    exact ⟨best, fun _ h => br_t (nI_le (a := 16) (Nat.le_refl 16) (by decide)) h, fun _ _ _ _ h => br_t (nI_le (a := 16) (Nat.le_refl 16) (by decide)) h⟩
  | succ d ih =>
    intro i hi best most B
    have hn : ¬ (16 : Int32) ≤ nI i := nI_ge (b := 16) (by omega) (by decide)
    have hin : vp_in (nI i) 17 := pk_in i 17 (by omega)
    have hcl : (nI i).toNatClampNeg = i := nI_clamp (by omega)
    have hix : vp_in (16 * nI i + nI i) 256 := pk_in (16 * i + i) 256 (by omega) (ky_ix i i)
    have hcx : (16 * nI i + nI i).toNatClampNeg = 16 * i + i := by rw [ky_ix, nI_clamp (by omega)]
    have sk44 : ∀ (fo gu : Nat → Int32) (postY : Int32 → SY → Prop) (J : Int32 → Int32 → Int32 → Prop), J best most (nI (i + 1)) → wY_heaviest_44 postY J best most (nI i) b_size b_root b_refers fo gu := by
      intro fo gu postY J h
      unfold wY_heaviest_44 wY_heaviest_45
      exact br_t rfl (nm_r (nI_1 i) h)
    by_cases c1 : a_number i < 0
    · obtain ⟨r, hX, hY⟩ := ih (i + 1) (by omega) best most B
      refine ⟨r, fun postX h => br_f hn ⟨hin, ?_⟩, fun fo gu F postY h => br_f hn ⟨hix, ?_⟩⟩
      · rw [hcl]
        exact br_t c1 (nm_r (nI_1 i) (hX postX h))
      · rw [hcx]
        have g0 : gu (16 * i + i) = 0 := Decidable.byContradiction (fun q => (F.1 i (by omega)).mpr q c1)
        exact br_t g0 (sk44 _ _ _ _ (hY fo gu F postY h))
    · obtain ⟨hz, ez⟩ := F2 i (by omega) c1
      obtain ⟨t, ht, et⟩ := F3 i (by omega) c1
      by_cases c2 : zf i < 16
      · obtain ⟨r, hX, hY⟩ := ih (i + 1) (by omega) best most B
        refine ⟨r, fun postX h => br_f hn ⟨hin, ?_⟩, fun fo gu F postY h => br_f hn ⟨hix, ?_⟩⟩
        · rw [hcl, ez]
          refine br_f c1 ⟨hin, ?_⟩
          exact pk_eq (zf i) 16 (fun q => by omega) (fun q => nm_r (nI_1 i) (hX postX h))
        · rw [hcx]
          refine br_f ((F.1 i (by omega)).mp c1) ?_
          refine ky_la (z := zf i) (by omega) (by omega) (F.2.1 i (by omega) c1) ?_
          rw [if_pos c2]
          exact br_t (nI_pos' (by omega)) (sk44 _ _ _ _ (hY fo gu F postY h))
      · have e16 : zf i = 16 := by omega
        rw [e16] at ez
        have take : ∀ {fo gu : Nat → Int32} {J : Int32 → Int32 → Int32 → Prop} {postY : Int32 → SY → Prop}, kh_F a_number a_heldBy b_size gu zf → ¬ a_heldBy i ≤ most → J (nI i) (a_heldBy i) (nI (i + 1)) → wY_heaviest_45 postY J best most (nI i) 1 b_size b_root b_refers fo gu := by
          intro fo gu J postY F hl h
          have eh := F.2.2 i (by omega) c1
          unfold wY_heaviest_45
          refine br_f (by decide) ?_
          refine ky_hb (by omega : i < 16) ?_
          rw [eh]
          refine br_f hl ?_
          refine ky_hb (by omega : i < 16) ?_
          rw [eh]
          exact nm_r (nI_1 i) h
        have pass : ∀ {fo gu : Nat → Int32} {J : Int32 → Int32 → Int32 → Prop} {postY : Int32 → SY → Prop}, kh_F a_number a_heldBy b_size gu zf → a_heldBy i ≤ most → J best most (nI (i + 1)) → wY_heaviest_45 postY J best most (nI i) 1 b_size b_root b_refers fo gu := by
          intro fo gu J postY F hl h
          have eh := F.2.2 i (by omega) c1
          unfold wY_heaviest_45
          refine br_f (by decide) ?_
          refine ky_hb (by omega : i < 16) ?_
          rw [eh]
          exact br_t hl (nm_r (nI_1 i) h)
        have toY : ∀ {fo gu : Nat → Int32} {postY : Int32 → SY → Prop}, kh_F a_number a_heldBy b_size gu zf → wY_heaviest_45 postY (wY_heaviest_10 postY b_size b_root b_refers fo gu (d + 1)) best most (nI i) 1 b_size b_root b_refers fo gu → wY_heaviest_10 postY b_size b_root b_refers fo gu (d + 1 + 1) best most (nI i) := by
          intro fo gu postY F h
          refine br_f hn ⟨hix, ?_⟩
          rw [hcx]
          refine br_f ((F.1 i (by omega)).mp c1) ?_
          refine ky_la (z := zf i) (by omega) (by omega) (F.2.1 i (by omega) c1) ?_
          rw [if_neg c2]
          exact br_f (by decide) h
        rcases B with ⟨b1, b2⟩ | ⟨j, hj, nj, b1, b2⟩
        · obtain ⟨r, hX, hY⟩ := ih (i + 1) (by omega) (nI i) (a_heldBy i) (Or.inr ⟨i, by omega, c1, rfl, rfl⟩)
          refine ⟨r, fun postX h => br_f hn ⟨hin, ?_⟩, fun fo gu F postY h => toY F (take F ?_ (hY fo gu F postY h))⟩
          · rw [hcl, ez]
            refine br_f c1 ⟨hin, br_t rfl (br_t (by rw [b1]; exact kb_m1) (nm_r (nI_1 i) (hX postX h)))⟩
          · rw [et, b2]
            intro q
            have h1 : (0 : Int32) ≤ nI t := nI_pos' (by omega)
            exact absurd (Int32.le_trans h1 q) (by decide)
        · by_cases c3 : a_heldBy i ≤ a_heldBy j
          · obtain ⟨r, hX, hY⟩ := ih (i + 1) (by omega) best most (Or.inr ⟨j, hj, nj, b1, b2⟩)
            refine ⟨r, fun postX h => br_f hn ⟨hin, ?_⟩, fun fo gu F postY h => toY F (pass F (by rw [b2]; exact c3) (hY fo gu F postY h))⟩
            rw [hcl, ez]
            refine br_f c1 ⟨hin, br_t rfl (br_f (by rw [b1]; exact nI_pos (by omega)) ⟨hin, pk_in j 17 (by omega) b1, ?_⟩)⟩
            rw [b1, nI_clamp (n := j) (by omega)]
            rw [b1] at hX
            exact br_t c3 (nm_r (nI_1 i) (hX postX h))
          · obtain ⟨r, hX, hY⟩ := ih (i + 1) (by omega) (nI i) (a_heldBy i) (Or.inr ⟨i, by omega, c1, rfl, rfl⟩)
            refine ⟨r, fun postX h => br_f hn ⟨hin, ?_⟩, fun fo gu F postY h => toY F (take F (by rw [b2]; exact c3) (hY fo gu F postY h))⟩
            rw [hcl, ez]
            refine br_f c1 ⟨hin, br_t rfl (br_f (by rw [b1]; exact nI_pos (by omega)) ⟨hin, pk_in j 17 (by omega) b1, ?_⟩)⟩
            rw [b1, nI_clamp (n := j) (by omega)]
            exact br_f c3 (nm_r (nI_1 i) (hX postX h))
end
end
section
/-! 13: the relation; each side's methods at a general post -/
theorem kt_b_d {p q : Prop} [d : Decidable p] (h : p ↔ q) : decide p = kt_b q := by
  by_cases c : p
  · rw [decide_eq_true c, kt_b_t (h.mp c)]
  · rw [decide_eq_false c, kt_b_f (fun z => c (h.mpr z))]
theorem kb_one {l i : Nat} (hl : l < 32) (hi : i < 32) : bt ((1 : Int32) <<< (nI l &&& 31)) i = decide (i = l) := by
  rw [b_shl l hl 1 hi, kb_1 (i - l) (by omega)]
  by_cases e : i = l
  · subst e; simp
  · rw [decide_eq_false e, Bool.and_eq_false_iff]
    by_cases h : l ≤ i
    · exact Or.inr (decide_eq_false (by omega))
    · exact Or.inl (decide_eq_false h)
theorem kx_ob (p : Int32) : (∃ j, j < 16 ∧ p = nI j) ∨ ((∀ post : Int32 → Prop, post 0 → wpX_isObject post p) ∧ (∀ post : Int32 → Prop, post 1 → wpY_bad post p)) := by
  by_cases h : p < 0
  · exact Or.inr ⟨fun _ hp => br_t h hp, fun _ hp => br_t h hp⟩
  · obtain ⟨j, hj, rfl⟩ := nI_of h
    by_cases c : j < 16
    · exact Or.inl ⟨j, c, rfl⟩
    · have h1 : (15 : Int32) < nI j := nI_lt (a := 15) (by omega) hj
      have h2 : ¬ nI j ≤ (15 : Int32) := nI_ge (a := 15) (by omega) hj
      exact Or.inr ⟨fun _ hp => br_f h (br_t h1 hp), fun _ hp => br_f h (br_f h2 hp)⟩
theorem kx_ok {post : Int32 → Prop} {j : Nat} (hj : j < 16) (hp : post 1) : wpX_isObject post (nI j) := br_f (nI_pos (by omega)) (br_f (nI_nlt (a := 15) (by omega) (by decide)) hp)
theorem ky_ok {post : Int32 → Prop} {j : Nat} (hj : j < 16) (hp : post 0) : wpY_bad post (nI j) := br_f (nI_pos (by omega)) (br_t (nI_le (b := 15) (by omega) (by decide)) hp)
theorem kx_vs {post : Int32 → Prop} {z : Nat} (hz : z < 17) (h : post (if z < 16 then nI z else -1)) : wpX_visible post (nI z) := by
  unfold wpX_visible
  refine pk_eq z 16 (fun e => ?_) (fun e => ?_)
  · subst e
    rw [if_neg (by omega)] at h
    exact h
  · rw [if_pos (by omega)] at h
    exact h
def kr_R (f_roots f_fresh : Int32) (a_sizeOf a_refers a_number a_keeperOf a_depthOf a_heldBy a_first a_last b_size b_root b_refers : Nat → Int32) : Prop :=
  a_sizeOf 16 = 0 ∧ (∀ o, o < 16 → a_sizeOf o = b_size o ∧ ∃ s, s ≤ 1000 ∧ b_size o = nI s) ∧ (∀ o, o < 16 → (bt f_roots o = true ↔ ¬ b_root o = 0)) ∧ (∀ v w, v < 16 → w < 16 → (bt (a_refers v) w = true ↔ ¬ b_refers (16 * v + w) = 0)) ∧ (¬ f_fresh = 0 → kv_Gd (ky_E b_root b_refers) a_sizeOf a_number a_keeperOf a_depthOf a_heldBy a_first a_last)
/-- the relation at the head of a turn -/
def i_Rel (k : Nat) (u : SX) (v : SY) : Prop := match u, v with
  | (f_roots, f_fresh, f_reached, a_sizeOf, a_refers, a_number, a_order, a_treeParent, a_stack, a_untried, a_semi, a_idom, a_ancestor, a_label, a_path, a_bucketHead, a_bucketNext, a_keeperOf, a_depthOf, a_heldBy, a_first, a_last), (b_size, b_root, b_refers, b_found, b_guard) => kr_R f_roots f_fresh a_sizeOf a_refers a_number a_keeperOf a_depthOf a_heldBy a_first a_last b_size b_root b_refers
theorem i_up {k : Nat} {u : SX} {v : SY} (h : i_Rel k u v) : i_Rel (k + 3) u v := h
theorem i_vc0 : wpX_init (fun u => wpY_init (fun v => i_Rel 0 u v)) := by
  show kr_R 0 0 (fun _ => 0) (fun _ => 0) (fun _ => 0) (fun _ => 0) (fun _ => 0) (fun _ => 0) (fun _ => 0) (fun _ => 0) (fun _ => 0) (fun _ => 0) (fun _ => 0)
  refine ⟨rfl, fun o _ => ⟨rfl, 0, by omega, rfl⟩, fun o _ => ?_, fun v w _ _ => ?_, fun h => absurd rfl h⟩
  · rw [b_0]
    exact ⟨fun h => absurd h (by decide), fun h => absurd rfl h⟩
  · show bt 0 w = true ↔ ¬ (0 : Int32) = 0
    rw [b_0]
    exact ⟨fun h => absurd h (by decide), fun h => absurd rfl h⟩
section
variable {f_roots f_fresh f_reached : Int32} {a_sizeOf a_refers a_number a_order a_treeParent a_stack a_untried a_semi a_idom a_ancestor a_label a_path a_bucketHead a_bucketNext a_keeperOf a_depthOf a_heldBy a_first a_last : Nat → Int32}
variable {b_size b_root b_refers b_found b_guard : Nat → Int32}
theorem kr_mk {k : Nat} (h : kr_R f_roots f_fresh a_sizeOf a_refers a_number a_keeperOf a_depthOf a_heldBy a_first a_last b_size b_root b_refers) : i_Rel k (f_roots, f_fresh, f_reached, a_sizeOf, a_refers, a_number, a_order, a_treeParent, a_stack, a_untried, a_semi, a_idom, a_ancestor, a_label, a_path, a_bucketHead, a_bucketNext, a_keeperOf, a_depthOf, a_heldBy, a_first, a_last) (b_size, b_root, b_refers, b_found, b_guard) := h
theorem kr_E (h : kr_R f_roots f_fresh a_sizeOf a_refers a_number a_keeperOf a_depthOf a_heldBy a_first a_last b_size b_root b_refers) : ∀ v w, kt_ev (upd a_refers 16 f_roots) v w ↔ ky_E b_root b_refers v w := by
  obtain ⟨h1, h2, h3, h4, h5⟩ := h
  intro v w
  unfold kt_ev ky_E
  by_cases e : v = 16
  · subst e
    rw [pk_us]
    constructor
    · rintro ⟨_, a, b⟩; exact ⟨a, Or.inl ⟨rfl, (h3 w a).mp b⟩⟩
    · rintro ⟨a, b | b⟩
      · exact ⟨by omega, a, (h3 w a).mpr b.2⟩
      · omega
  · rw [pk_un e]
    constructor
    · rintro ⟨a, b, c⟩; exact ⟨b, Or.inr ⟨by omega, (h4 v w (by omega) b).mp c⟩⟩
    · rintro ⟨a, b | b⟩
      · exact absurd b.1 e
      · exact ⟨by omega, a, (h4 v w b.1 a).mpr b.2⟩
theorem kr_nx {fresh : Int32} {rf nu kp de he fa ra : Nat → Int32} (h : kr_R f_roots f_fresh a_sizeOf a_refers a_number a_keeperOf a_depthOf a_heldBy a_first a_last b_size b_root b_refers) (hrf : ∀ v, v < 16 → rf v = a_refers v) (gd : kv_Gd (ky_E b_root b_refers) a_sizeOf nu kp de he fa ra) : kr_R f_roots fresh a_sizeOf rf nu kp de he fa ra b_size b_root b_refers := by
  obtain ⟨h1, h2, h3, h4, h5⟩ := h
  exact ⟨h1, h2, h3, fun v w hv hw => by rw [hrf v hv]; exact h4 v w hv hw, fun _ => gd⟩
/-- the reference's isAlive -/
theorem kz_al {post : Int32 → SY → Prop} {o : Nat} (ho : o < 16) (K1 : ∀ fo : Nat → Int32, kv_al (ky_E b_root b_refers) o → post 1 (b_size, b_root, b_refers, fo, b_guard)) (K0 : ∀ fo : Nat → Int32, ¬ kv_al (ky_E b_root b_refers) o → post 0 (b_size, b_root, b_refers, fo, b_guard)) : wpY_isAlive post (b_size, b_root, b_refers, b_found, b_guard) (nI o) := by
  unfold wpY_isAlive
  refine ky_fa ?_
  intro fo f1 f2
  refine And.intro (pk_in o 16 ho) ?_
  rw [nI_clamp (n := o) (by omega)]
  have h2 := f2 o ho
  rcases f1 o ho with e | e
  · rw [e]
    exact ⟨rfl, K0 fo (fun z => h2.mpr z e)⟩
  · rw [e]
    exact ⟨rfl, K1 fo (h2.mp (by rw [e]; decide))⟩
theorem kz_gd {post : Int32 → SY → Prop} {k o : Nat} (hk : k < 16) (ho : o < 16) (K1 : ∀ fo : Nat → Int32, kv_D (ky_E b_root b_refers) k o → post 1 (b_size, b_root, b_refers, fo, b_guard)) (K0 : ∀ fo : Nat → Int32, ¬ kv_D (ky_E b_root b_refers) k o → post 0 (b_size, b_root, b_refers, fo, b_guard)) : wpY_isGuard post (b_size, b_root, b_refers, b_found, b_guard) (nI k) (nI o) := by
  unfold wpY_isGuard
  refine kz_al ho (fun fo h => ?_) (fun fo h => ?_)
  · refine ky_fk hk ?_
    intro fo2 f1 f2
    refine br_f (by decide) ⟨pk_in o 16 ho, ?_⟩
    rw [nI_clamp (n := o) (by omega)]
    refine br_c (fun q => K1 fo2 ⟨h, fun z => (f2 o ho).mpr z q⟩) (fun q => K0 fo2 (fun z => z.2 ((f2 o ho).mp q)))
  · refine ky_fk hk ?_
    intro fo2 f1 f2
    exact br_t rfl (K0 fo2 (fun z => h z.1))
theorem kx_ho {post : Int32 → Prop} {E : Nat → Nat → Prop} {k o : Nat} (gd : kv_Gd E a_sizeOf a_number a_keeperOf a_depthOf a_heldBy a_first a_last) (hk : k < 16) (ho : o < 16) (K1 : kv_D E k o → post 1) (K0 : ¬ kv_D E k o → post 0) : wpX_holds post (f_roots, f_fresh, f_reached, a_sizeOf, a_refers, a_number, a_order, a_treeParent, a_stack, a_untried, a_semi, a_idom, a_ancestor, a_label, a_path, a_bucketHead, a_bucketNext, a_keeperOf, a_depthOf, a_heldBy, a_first, a_last) (nI k) (nI o) := by
  obtain ⟨K, dp, g1, g2, g3, g4, g5, g6⟩ := gd
  have H : kv_T E K dp := ⟨fun v hv ha hne => ⟨(g2 v hv ha hne).1, (g2 v hv ha hne).2.1, (g2 v hv ha hne).2.2.2.1, (g2 v hv ha hne).2.2.2.2⟩, g3⟩
  have i1 : vp_in (nI k) 17 := pk_in k 17 (by omega)
  have i2 : vp_in (nI o) 17 := pk_in o 17 (by omega)
  refine And.intro i1 ?_
  rw [nI_clamp (n := k) (by omega), nI_clamp (n := o) (by omega)]
  refine br_c (fun h => K0 (fun z => ?_)) (fun h => ⟨i2, ?_⟩)
  · exact (g1 k (by omega)).mpr (kq_dp H _ o rfl (by omega) z.1 k (by omega) z).2 h
  · refine br_c (fun h2 => ⟨i1, i2, ?_⟩) (fun h2 => K0 (fun z => ?_))
    · have e := g6 k o (by omega) (by omega) ((g1 k (by omega)).mp h) ((g1 o (by omega)).mp (Int32.not_lt.mpr h2))
      refine br_c (fun h3 => K0 (fun z => (e.mpr z).1 h3)) (fun h3 => ⟨i2, i1, ?_⟩)
      exact br_c (fun h4 => K0 (fun z => (e.mpr z).2 h4)) (fun h4 => K1 (e.mp ⟨h3, h4⟩))
    · exact h2 (Int32.not_lt.mp ((g1 o (by omega)).mpr z.1))
end
end
section
/-! 14: setSize, flip, setRoot -/
section
variable {f_roots f_fresh f_reached : Int32} {a_sizeOf a_refers a_number a_order a_treeParent a_stack a_untried a_semi a_idom a_ancestor a_label a_path a_bucketHead a_bucketNext a_keeperOf a_depthOf a_heldBy a_first a_last : Nat → Int32}
variable {b_size b_root b_refers b_found b_guard : Nat → Int32}
theorem kr_sz {j s : Nat} (h : kr_R f_roots f_fresh a_sizeOf a_refers a_number a_keeperOf a_depthOf a_heldBy a_first a_last b_size b_root b_refers) (hj : j < 16) (hs : s ≤ 1000) : kr_R f_roots 0 (upd a_sizeOf j (nI s)) a_refers a_number a_keeperOf a_depthOf a_heldBy a_first a_last (upd b_size j (nI s)) b_root b_refers := by
  obtain ⟨h1, h2, h3, h4, h5⟩ := h
  refine ⟨by rw [pk_un (by omega)]; exact h1, fun o ho => ?_, h3, h4, fun q => absurd rfl q⟩
  by_cases e : o = j
  · subst e
    rw [pk_us, pk_us]
    exact ⟨rfl, s, hs, rfl⟩
  · rw [pk_un e, pk_un e]; exact h2 o ho
theorem kr_fl {j l : Nat} {y : Int32} (h : kr_R f_roots f_fresh a_sizeOf a_refers a_number a_keeperOf a_depthOf a_heldBy a_first a_last b_size b_root b_refers) (hj : j < 16) (hl : l < 16) (hy : ¬ y = 0 ↔ b_refers (16 * j + l) = 0) : kr_R f_roots 0 a_sizeOf (upd a_refers j (a_refers j ^^^ ((1 : Int32) <<< (nI l &&& 31)))) a_number a_keeperOf a_depthOf a_heldBy a_first a_last b_size b_root (upd b_refers (16 * j + l) y) := by
  obtain ⟨h1, h2, h3, h4, h5⟩ := h
  refine ⟨h1, h2, h3, fun v w hv hw => ?_, fun q => absurd rfl q⟩
  by_cases e : v = j
  · subst e
    have h6 := h4 v w hv hw
    rw [pk_us, b_xor, kb_one (by omega) (by omega)]
    by_cases e2 : w = l
    · subst e2
      rw [pk_us, hy]
      cases hb : bt (a_refers v) w
      · rw [hb] at h6
        simp
        exact Decidable.byContradiction (fun q => absurd (h6.mpr q) (by decide))
      · rw [hb] at h6
        simp
        exact h6.mp rfl
    · rw [pk_un (by omega), decide_eq_false e2, Bool.xor_false]
      exact h6
  · rw [pk_un e, pk_un (by omega)]
    exact h4 v w hv hw
theorem kr_rt {j : Nat} {x y : Int32} (h : kr_R f_roots f_fresh a_sizeOf a_refers a_number a_keeperOf a_depthOf a_heldBy a_first a_last b_size b_root b_refers) (hj : j < 16) (hx : ∀ o, o < 16 → (bt x o = true ↔ if o = j then ¬ y = 0 else bt f_roots o = true)) : kr_R x 0 a_sizeOf a_refers a_number a_keeperOf a_depthOf a_heldBy a_first a_last b_size (upd b_root j y) b_refers := by
  obtain ⟨h1, h2, h3, h4, h5⟩ := h
  refine ⟨h1, h2, fun o ho => ?_, h4, fun q => absurd rfl q⟩
  rw [hx o ho]
  by_cases e : o = j
  · subst e
    rw [if_pos rfl, pk_us]
  · rw [if_neg e, pk_un e]
    exact h3 o ho
end
theorem i_vc_setSize {k : Nat} {u : SX} {v : SY} (I : i_Rel k u v) (hk : k + 3 ≤ 1536) (v1 : Int32) (v2 : Int32) : wpX_setSize (fun r u' => wpY_setSize (fun r' v' => r' = r ∧ i_Rel (k + 3) u' v') v v1 v2) u v1 v2 := by
  obtain ⟨f_roots, f_fresh, f_reached, a_sizeOf, a_refers, a_number, a_order, a_treeParent, a_stack, a_untried, a_semi, a_idom, a_ancestor, a_label, a_path, a_bucketHead, a_bucketNext, a_keeperOf, a_depthOf, a_heldBy, a_first, a_last⟩ := u
  obtain ⟨b_size, b_root, b_refers, b_found, b_guard⟩ := v
  have I' : kr_R f_roots f_fresh a_sizeOf a_refers a_number a_keeperOf a_depthOf a_heldBy a_first a_last b_size b_root b_refers := I
  unfold wpX_setSize wpY_setSize
  rcases kx_ob v1 with ⟨j, hj, rfl⟩ | ⟨bX, bY⟩
  · have old := (I'.2.1 j hj).1.symm
    have i1 : vp_in (nI j) 17 := pk_in j 17 (by omega)
    have i2 : vp_in (nI j) 16 := pk_in j 16 hj
    refine kx_ok hj (br_f (by decide) ⟨i1, ?_⟩)
    rw [nI_clamp (n := j) (by omega)]
    refine nm_e ?_
    refine br_c (fun h0 => ?_) (fun h0 => ?_)
    · refine br_c (fun h1 => ⟨i1, nm_e ?_⟩) (fun h1 => ⟨i1, nm_e ?_⟩)
      · obtain ⟨s, hs, es⟩ := nI_of2 (x := v2) (M := 1000) (n := 1000) (by decide) (Int32.not_lt.mpr h0) h1
        refine ky_ok hj (br_t rfl ⟨i2, nm_e (br_t h0 (br_t h1 ⟨i2, nm_e ⟨old, ?_⟩⟩))⟩)
        rw [es]
        exact kr_sz I' hj hs
      · refine ky_ok hj (br_t rfl ⟨i2, nm_e (br_t h0 (br_f h1 ⟨i2, nm_e ⟨old, ?_⟩⟩))⟩)
        exact kr_sz (s := 1000) I' hj (Nat.le_refl _)
    · refine ⟨i1, nm_e ?_⟩
      refine ky_ok hj (br_t rfl ⟨i2, nm_e (br_f h0 ⟨i2, nm_e ⟨old, ?_⟩⟩)⟩)
      exact kr_sz (s := 0) I' hj (by omega)
  · exact bX _ (br_t rfl (bY _ (br_f (by decide) ⟨rfl, I⟩)))
theorem i_vc_flip {k : Nat} {u : SX} {v : SY} (I : i_Rel k u v) (hk : k + 3 ≤ 1536) (v1 : Int32) (v2 : Int32) : wpX_flip (fun r u' => wpY_flip (fun r' v' => r' = r ∧ i_Rel (k + 3) u' v') v v1 v2) u v1 v2 := by
  obtain ⟨f_roots, f_fresh, f_reached, a_sizeOf, a_refers, a_number, a_order, a_treeParent, a_stack, a_untried, a_semi, a_idom, a_ancestor, a_label, a_path, a_bucketHead, a_bucketNext, a_keeperOf, a_depthOf, a_heldBy, a_first, a_last⟩ := u
  obtain ⟨b_size, b_root, b_refers, b_found, b_guard⟩ := v
  have I' : kr_R f_roots f_fresh a_sizeOf a_refers a_number a_keeperOf a_depthOf a_heldBy a_first a_last b_size b_root b_refers := I
  unfold wpX_flip wpY_flip
  rcases kx_ob v1 with ⟨j, hj, rfl⟩ | ⟨bX, bY⟩
  · rcases kx_ob v2 with ⟨l, hl, rfl⟩ | ⟨bX, bY⟩
    · have i1 : vp_in (nI j) 17 := pk_in j 17 (by omega)
      have ix : vp_in (16 * nI j + nI l) 256 := pk_in (16 * j + l) 256 (by omega) (ky_ix j l)
      have cx : (16 * nI j + nI l).toNatClampNeg = 16 * j + l := by rw [ky_ix, nI_clamp (by omega)]
      have hb := I'.2.2.2.1 j l hj hl
      have hnew : bt (a_refers j ^^^ ((1 : Int32) <<< (nI l &&& 31))) l = !bt (a_refers j) l := by
        rw [b_xor, kb_one (by omega) (by omega), decide_eq_true rfl, Bool.xor_true]
      refine kx_ok hj (br_f (by decide) (kx_ok hl (br_f (by decide) ⟨i1, i1, ?_⟩)))
      rw [nI_clamp (n := j) (by omega)]
      refine nm_e ⟨i1, ?_⟩
      rw [pk_us, kb_val _ (by omega : l < 32), hnew]
      refine ky_ok hj (br_t rfl (ky_ok hl (br_t rfl ⟨ix, ?_⟩)))
      rw [cx]
      refine br_c (fun h => ?_) (fun h => ?_)
      · refine And.intro ix ?_
        rw [cx, ky_b1]
        refine nm_e ⟨ix, ?_⟩
        rw [pk_us]
        have hf : bt (a_refers j) l = false := by
          cases q : bt (a_refers j) l
          · rfl
          · exact absurd h (hb.mp q)
        refine br_f (by decide) ⟨?_, kr_fl I' hj hl ⟨fun _ => h, fun _ => by decide⟩⟩
        rw [hf]; rfl
      · refine And.intro ix ?_
        rw [cx, ky_b0]
        refine nm_e ⟨ix, ?_⟩
        rw [pk_us]
        refine br_t rfl ⟨?_, kr_fl I' hj hl ⟨fun q => absurd rfl q, fun q => absurd q h⟩⟩
        rw [hb.mpr h]; rfl
    · exact kx_ok hj (br_f (by decide) (bX _ (br_t rfl (ky_ok hj (br_t rfl (bY _ (br_f (by decide) ⟨rfl, I⟩)))))))
  · exact bX _ (br_t rfl (bY _ (br_f (by decide) ⟨rfl, I⟩)))
theorem i_vc_setRoot {k : Nat} {u : SX} {v : SY} (I : i_Rel k u v) (hk : k + 3 ≤ 1536) (v1 : Int32) (v2 : Int32) : wpX_setRoot (fun r u' => wpY_setRoot (fun r' v' => r' = r ∧ i_Rel (k + 3) u' v') v v1 (lw_bz v2)) u v1 (lw_bz v2) := by
  obtain ⟨f_roots, f_fresh, f_reached, a_sizeOf, a_refers, a_number, a_order, a_treeParent, a_stack, a_untried, a_semi, a_idom, a_ancestor, a_label, a_path, a_bucketHead, a_bucketNext, a_keeperOf, a_depthOf, a_heldBy, a_first, a_last⟩ := u
  obtain ⟨b_size, b_root, b_refers, b_found, b_guard⟩ := v
  have I' : kr_R f_roots f_fresh a_sizeOf a_refers a_number a_keeperOf a_depthOf a_heldBy a_first a_last b_size b_root b_refers := I
  unfold wpX_setRoot wpY_setRoot
  rcases kx_ob v1 with ⟨j, hj, rfl⟩ | ⟨bX, bY⟩
  · have i2 : vp_in (nI j) 16 := pk_in j 16 hj
    have hb := I'.2.2.1 j hj
    have tailY : ∀ (rt : Int32) (y : Int32), (y = 0 ∨ y = 1) → kr_R rt 0 a_sizeOf a_refers a_number a_keeperOf a_depthOf a_heldBy a_first a_last b_size (upd b_root j y) b_refers → wpY_setRoot (fun r' v' => r' = (if bt f_roots j = true then 1 else 0) ∧ i_Rel (k + 3) (rt, 0, f_reached, a_sizeOf, a_refers, a_number, a_order, a_treeParent, a_stack, a_untried, a_semi, a_idom, a_ancestor, a_label, a_path, a_bucketHead, a_bucketNext, a_keeperOf, a_depthOf, a_heldBy, a_first, a_last) v') (b_size, b_root, b_refers, b_found, b_guard) (nI j) y := by
      intro rt y hy hr
      have ey : vp_nar .boolean y = y := by rcases hy with e | e <;> (rw [e]; rfl)
      unfold wpY_setRoot
      refine ky_ok hj (br_t rfl ⟨i2, ?_⟩)
      rw [nI_clamp (n := j) (by omega)]
      refine br_c (fun h => ?_) (fun h => ?_)
      · refine And.intro i2 ?_
        rw [nI_clamp (n := j) (by omega), ey]
        refine nm_e ⟨?_, hr⟩
        rw [if_neg (fun q => (hb.mp q) h)]
      · refine And.intro i2 ?_
        rw [nI_clamp (n := j) (by omega), ey]
        refine nm_e ⟨?_, hr⟩
        rw [if_pos (hb.mpr h)]
    refine kx_ok hj (br_f (by decide) ?_)
    rw [kb_val _ (by omega : j < 32)]
    refine nm_e ?_
    rcases lw_bz_01 v2 with e | e
    · rw [e]
      refine br_t rfl (nm_e ?_)
      refine tailY _ 0 (Or.inl rfl) (kr_rt I' hj (fun o ho => ?_))
      rw [kb_clr _ (by omega) (by omega)]
      by_cases q : o = j
      · rw [if_pos q, decide_eq_true q]; simp
      · rw [if_neg q, decide_eq_false q]; simp
    · rw [e]
      refine br_f (by decide) (nm_e ?_)
      refine tailY _ 1 (Or.inr rfl) (kr_rt I' hj (fun o ho => ?_))
      rw [b_or, kb_one (by omega) (by omega)]
      by_cases q : o = j
      · rw [if_pos q, decide_eq_true q]; simp
      · rw [if_neg q, decide_eq_false q]; simp
  · exact bX _ (br_t rfl (bY _ (br_f (by decide) ⟨rfl, I⟩)))
end
section
/-! 15: the queries -/
theorem i_vc_alive {k : Nat} {u : SX} {v : SY} (I : i_Rel k u v) (hk : k + 3 ≤ 1536) (v1 : Int32) : wpX_alive (fun r u' => wpY_alive (fun r' v' => r' = r ∧ i_Rel (k + 3) u' v') v v1) u v1 := by
  obtain ⟨f_roots, f_fresh, f_reached, a_sizeOf, a_refers, a_number, a_order, a_treeParent, a_stack, a_untried, a_semi, a_idom, a_ancestor, a_label, a_path, a_bucketHead, a_bucketNext, a_keeperOf, a_depthOf, a_heldBy, a_first, a_last⟩ := u
  obtain ⟨b_size, b_root, b_refers, b_found, b_guard⟩ := v
  have I' : kr_R f_roots f_fresh a_sizeOf a_refers a_number a_keeperOf a_depthOf a_heldBy a_first a_last b_size b_root b_refers := I
  unfold wpX_alive wpY_alive
  rcases kx_ob v1 with ⟨j, hj, rfl⟩ | ⟨bX, bY⟩
  · refine kx_ok hj (br_f (by decide) ?_)
    refine kp_pr (kr_E I') I'.2.2.2.2 ?_
    intro fresh reached rf nu oa ta sk un se id an lb pa bh bn kp de he fa ra hrf gd
    have I2 := kr_nx (fresh := fresh) I' hrf gd
    obtain ⟨K, dp, g1, g2, g3, g4, g5, g6⟩ := gd
    have g := g1 j (by omega)
    refine And.intro (pk_in j 17 (by omega)) ?_
    rw [nI_clamp (n := j) (by omega)]
    refine br_c (fun h => ?_) (fun h => ?_)
    · exact ky_ok hj (br_t rfl (kz_al hj (fun fo q => absurd h (g.mpr q)) (fun fo q => br_t rfl ⟨rfl, I2⟩)))
    · exact ky_ok hj (br_t rfl (kz_al hj (fun fo q => br_f (by decide) ⟨rfl, I2⟩) (fun fo q => absurd (g.mp h) q)))
  · exact bX _ (br_t rfl (bY _ (br_f (by decide) ⟨rfl, I⟩)))
theorem i_vc_keeper {k : Nat} {u : SX} {v : SY} (I : i_Rel k u v) (hk : k + 3 ≤ 1536) (v1 : Int32) : wpX_keeper (fun r u' => wpY_keeper (fun r' v' => r' = r ∧ i_Rel (k + 3) u' v') v v1) u v1 := by
  obtain ⟨f_roots, f_fresh, f_reached, a_sizeOf, a_refers, a_number, a_order, a_treeParent, a_stack, a_untried, a_semi, a_idom, a_ancestor, a_label, a_path, a_bucketHead, a_bucketNext, a_keeperOf, a_depthOf, a_heldBy, a_first, a_last⟩ := u
  obtain ⟨b_size, b_root, b_refers, b_found, b_guard⟩ := v
  have I' : kr_R f_roots f_fresh a_sizeOf a_refers a_number a_keeperOf a_depthOf a_heldBy a_first a_last b_size b_root b_refers := I
  unfold wpX_keeper wpY_keeper
  rcases kx_ob v1 with ⟨j, hj, rfl⟩ | ⟨bX, bY⟩
  · refine kx_ok hj (br_f (by decide) ?_)
    refine kp_pr (kr_E I') I'.2.2.2.2 ?_
    intro fresh reached rf nu oa ta sk un se id an lb pa bh bn kp de he fa ra hrf gd
    have I2 := kr_nx (fresh := fresh) I' hrf gd
    obtain ⟨K, dp, g1, g2, g3, g4, g5, g6⟩ := gd
    have H : kv_T (ky_E b_root b_refers) K dp := ⟨fun v hv ha hne => ⟨(g2 v hv ha hne).1, (g2 v hv ha hne).2.1, (g2 v hv ha hne).2.2.2.1, (g2 v hv ha hne).2.2.2.2⟩, g3⟩
    have g := g1 j (by omega)
    refine And.intro (pk_in j 17 (by omega)) ?_
    rw [nI_clamp (n := j) (by omega)]
    refine br_c (fun h => ?_) (fun h => ⟨pk_in j 17 (by omega), ?_⟩)
    · refine ky_ok hj (br_t rfl (ky_ga ?_))
      intro fo gu hgu
      refine ky_la (z := 16) hj hj (kq_no (fun g0 hg0 z => ?_)) ⟨rfl, I2⟩
      exact (g.mpr ((hgu g0 j hg0 hj).mp z.1).1) h
    · have hal := g.mp h
      obtain ⟨k1, k2, k3, _⟩ := g2 j (by omega) hal (by omega)
      rw [k3]
      refine kx_vs k1 ?_
      refine ky_ok hj (br_t rfl (ky_ga ?_))
      intro fo gu hgu
      exact ky_la (z := K j) hj hj (kq_z H hgu k1 k2 (kq_kp H hgu hj hal)) ⟨rfl, I2⟩
  · exact bX _ (br_t rfl (bY _ (br_f (by decide) ⟨rfl, I⟩)))
theorem i_vc_held {k : Nat} {u : SX} {v : SY} (I : i_Rel k u v) (hk : k + 3 ≤ 1536) (v1 : Int32) : wpX_held (fun r u' => wpY_held (fun r' v' => r' = r ∧ i_Rel (k + 3) u' v') v v1) u v1 := by
  obtain ⟨f_roots, f_fresh, f_reached, a_sizeOf, a_refers, a_number, a_order, a_treeParent, a_stack, a_untried, a_semi, a_idom, a_ancestor, a_label, a_path, a_bucketHead, a_bucketNext, a_keeperOf, a_depthOf, a_heldBy, a_first, a_last⟩ := u
  obtain ⟨b_size, b_root, b_refers, b_found, b_guard⟩ := v
  have I' : kr_R f_roots f_fresh a_sizeOf a_refers a_number a_keeperOf a_depthOf a_heldBy a_first a_last b_size b_root b_refers := I
  unfold wpX_held wpY_held
  rcases kx_ob v1 with ⟨j, hj, rfl⟩ | ⟨bX, bY⟩
  · refine kx_ok hj (br_f (by decide) ?_)
    refine kp_pr (kr_E I') I'.2.2.2.2 ?_
    intro fresh reached rf nu oa ta sk un se id an lb pa bh bn kp de he fa ra hrf gd
    have I2 := kr_nx (fresh := fresh) I' hrf gd
    obtain ⟨K, dp, g1, g2, g3, g4, g5, g6⟩ := gd
    have H : kv_T (ky_E b_root b_refers) K dp := ⟨fun v hv ha hne => ⟨(g2 v hv ha hne).1, (g2 v hv ha hne).2.1, (g2 v hv ha hne).2.2.2.1, (g2 v hv ha hne).2.2.2.2⟩, g3⟩
    have g := g1 j (by omega)
    refine And.intro (pk_in j 17 (by omega)) ?_
    rw [nI_clamp (n := j) (by omega)]
    refine br_c (fun h => ?_) (fun h => ⟨pk_in j 17 (by omega), ?_⟩)
    · refine ky_ok hj (br_t rfl (ky_ga ?_))
      intro fo gu hgu
      refine ky_hb hj ⟨?_, I2⟩
      refine kt_sum_0 16 (fun i hi => decide_eq_false (fun q => ?_))
      have q2 := (hgu j i hj hi).mp q
      exact (g.mpr (kq_dp H _ i rfl (by omega) q2.1 j (by omega) q2).2) h
    · have hal := g.mp h
      refine ky_ok hj (br_t rfl (ky_ga ?_))
      intro fo gu hgu
      refine ky_hb hj ⟨?_, I2⟩
      rw [g5 j (by omega) hal]
      exact (kq_sum I'.1 (fun i hi => ⟨(I'.2.1 i hi).1, (kt_b_d (hgu j i hj hi)).symm⟩)).symm
  · exact bX _ (br_t rfl (bY _ (br_f (by decide) ⟨rfl, I⟩)))
theorem i_vc_guards {k : Nat} {u : SX} {v : SY} (I : i_Rel k u v) (hk : k + 3 ≤ 1536) (v1 : Int32) (v2 : Int32) : wpX_guards (fun r u' => wpY_guards (fun r' v' => r' = r ∧ i_Rel (k + 3) u' v') v v1 v2) u v1 v2 := by
  obtain ⟨f_roots, f_fresh, f_reached, a_sizeOf, a_refers, a_number, a_order, a_treeParent, a_stack, a_untried, a_semi, a_idom, a_ancestor, a_label, a_path, a_bucketHead, a_bucketNext, a_keeperOf, a_depthOf, a_heldBy, a_first, a_last⟩ := u
  obtain ⟨b_size, b_root, b_refers, b_found, b_guard⟩ := v
  have I' : kr_R f_roots f_fresh a_sizeOf a_refers a_number a_keeperOf a_depthOf a_heldBy a_first a_last b_size b_root b_refers := I
  unfold wpX_guards wpY_guards
  rcases kx_ob v1 with ⟨j, hj, rfl⟩ | ⟨bX, bY⟩
  · rcases kx_ob v2 with ⟨l, hl, rfl⟩ | ⟨bX, bY⟩
    · refine kx_ok hj (br_f (by decide) (kx_ok hl (br_f (by decide) ?_)))
      refine kp_pr (kr_E I') I'.2.2.2.2 ?_
      intro fresh reached rf nu oa ta sk un se id an lb pa bh bn kp de he fa ra hrf gd
      have I2 := kr_nx (fresh := fresh) I' hrf gd
      refine kx_ho gd hj hl (fun h => br_f (by decide) ?_) (fun h => br_t rfl ?_)
      · exact ky_ok hj (br_t rfl (ky_ok hl (br_t rfl (kz_gd hj hl (fun fo q => br_f (by decide) ⟨rfl, I2⟩) (fun fo q => absurd h q)))))
      · exact ky_ok hj (br_t rfl (ky_ok hl (br_t rfl (kz_gd hj hl (fun fo q => absurd q h) (fun fo q => br_t rfl ⟨rfl, I2⟩)))))
    · exact kx_ok hj (br_f (by decide) (bX _ (br_t rfl (ky_ok hj (br_t rfl (bY _ (br_f (by decide) ⟨rfl, I⟩)))))))
  · exact bX _ (br_t rfl (bY _ (br_f (by decide) ⟨rfl, I⟩)))
theorem i_vc_depth {k : Nat} {u : SX} {v : SY} (I : i_Rel k u v) (hk : k + 3 ≤ 1536) (v1 : Int32) : wpX_depth (fun r u' => wpY_depth (fun r' v' => r' = r ∧ i_Rel (k + 3) u' v') v v1) u v1 := by
  obtain ⟨f_roots, f_fresh, f_reached, a_sizeOf, a_refers, a_number, a_order, a_treeParent, a_stack, a_untried, a_semi, a_idom, a_ancestor, a_label, a_path, a_bucketHead, a_bucketNext, a_keeperOf, a_depthOf, a_heldBy, a_first, a_last⟩ := u
  obtain ⟨b_size, b_root, b_refers, b_found, b_guard⟩ := v
  have I' : kr_R f_roots f_fresh a_sizeOf a_refers a_number a_keeperOf a_depthOf a_heldBy a_first a_last b_size b_root b_refers := I
  unfold wpX_depth wpY_depth
  rcases kx_ob v1 with ⟨j, hj, rfl⟩ | ⟨bX, bY⟩
  · refine kx_ok hj (br_f (by decide) ?_)
    refine kp_pr (kr_E I') I'.2.2.2.2 ?_
    intro fresh reached rf nu oa ta sk un se id an lb pa bh bn kp de he fa ra hrf gd
    have I2 := kr_nx (fresh := fresh) I' hrf gd
    obtain ⟨K, dp, g1, g2, g3, g4, g5, g6⟩ := gd
    have H : kv_T (ky_E b_root b_refers) K dp := ⟨fun v hv ha hne => ⟨(g2 v hv ha hne).1, (g2 v hv ha hne).2.1, (g2 v hv ha hne).2.2.2.1, (g2 v hv ha hne).2.2.2.2⟩, g3⟩
    have g := g1 j (by omega)
    refine And.intro (pk_in j 17 (by omega)) ?_
    rw [nI_clamp (n := j) (by omega)]
    refine br_c (fun h => ?_) (fun h => ⟨pk_in j 17 (by omega), ?_⟩)
    · refine ky_ok hj (br_t rfl (ky_ga ?_))
      intro fo gu hgu
      refine ky_dp hj ⟨?_, I2⟩
      rw [kt_cn_cg 16 (q := fun _ => false) (fun i hi => decide_eq_false (fun q => (g.mpr ((hgu i j hi hj).mp q).1) h)), kt_cn_0]
      rfl
    · have hal := g.mp h
      refine ky_ok hj (br_t rfl (ky_ga ?_))
      intro fo gu hgu
      refine ky_dp hj ⟨?_, I2⟩
      rw [(g4 j (by omega) hal).1, kt_cn_cg 16 (q := fun i => kt_b (kv_D (ky_E b_root b_refers) i j)) (fun i hi => kt_b_d (hgu i j hi hj)), kq_ct H _ j rfl (by omega) hal]
  · exact bX _ (br_t rfl (bY _ (br_f (by decide) ⟨rfl, I⟩)))
theorem i_vc_common {k : Nat} {u : SX} {v : SY} (I : i_Rel k u v) (hk : k + 3 ≤ 1536) (v1 : Int32) (v2 : Int32) : wpX_common (fun r u' => wpY_common (fun r' v' => r' = r ∧ i_Rel (k + 3) u' v') v v1 v2) u v1 v2 := by
  obtain ⟨f_roots, f_fresh, f_reached, a_sizeOf, a_refers, a_number, a_order, a_treeParent, a_stack, a_untried, a_semi, a_idom, a_ancestor, a_label, a_path, a_bucketHead, a_bucketNext, a_keeperOf, a_depthOf, a_heldBy, a_first, a_last⟩ := u
  obtain ⟨b_size, b_root, b_refers, b_found, b_guard⟩ := v
  have I' : kr_R f_roots f_fresh a_sizeOf a_refers a_number a_keeperOf a_depthOf a_heldBy a_first a_last b_size b_root b_refers := I
  unfold wpX_common wpY_common
  rcases kx_ob v1 with ⟨j, hj, rfl⟩ | ⟨bX, bY⟩
  · rcases kx_ob v2 with ⟨l, hl, rfl⟩ | ⟨bX, bY⟩
    · refine kx_ok hj (br_f (by decide) (kx_ok hl (br_f (by decide) ?_)))
      refine kp_pr (kr_E I') I'.2.2.2.2 ?_
      intro fresh reached rf nu oa ta sk un se id an lb pa bh bn kp de he fa ra hrf gd
      have I2 := kr_nx (fresh := fresh) I' hrf gd
      obtain ⟨K, dp, g1, g2, g3, g4, g5, g6⟩ := gd
      have H : kv_T (ky_E b_root b_refers) K dp := ⟨fun v hv ha hne => ⟨(g2 v hv ha hne).1, (g2 v hv ha hne).2.1, (g2 v hv ha hne).2.2.2.1, (g2 v hv ha hne).2.2.2.2⟩, g3⟩
      have gj := g1 j (by omega)
      have gl := g1 l (by omega)
      refine And.intro (pk_in j 17 (by omega)) ?_
      rw [nI_clamp (n := j) (by omega), nI_clamp (n := l) (by omega)]
      refine br_c (fun h => ?_) (fun h => ⟨pk_in l 17 (by omega), ?_⟩)
      · refine ky_ok hj (br_t rfl (ky_ok hl (br_t rfl (ky_ga ?_))))
        intro fo gu hgu
        refine ky_la (z := 16) hj hl (kq_no (fun g0 hg0 z => ?_)) ⟨rfl, I2⟩
        exact (gj.mpr ((hgu g0 j hg0 hj).mp z.1).1) h
      · refine br_c (fun h2 => ⟨33, ?_⟩) (fun h2 => ?_)
        · have haj := gj.mp h
          have hal := gl.mp (Int32.not_lt.mpr h2)
          have dj := (g4 j (by omega) haj).2
          have dl := (g4 l (by omega) hal).2
          refine kc_49 (E := ky_E b_root b_refers) (K := K) (dp := dp) (a := j) (b := l) H (fun v hv ha hne => (g2 v hv ha hne).2.2.1) g4 ?_ 33 j l 0 (by omega) (by omega) (by omega) (by omega) haj hal (fun g _ => Iff.rfl)
          intro z hz haz hgz
          refine ky_ok hj (br_t rfl (ky_ok hl (br_t rfl (ky_ga ?_))))
          intro fo gu hgu
          refine ky_la (z := z) hj hl (kq_z H hgu hz haz (fun g hg => ?_)) ⟨rfl, I2⟩
          unfold ky_Sb
          rw [hgu g j hg hj, hgu g l hg hl, hgz g (by omega)]
          exact ⟨fun q => ⟨q.1, q.2.1⟩, fun q => ⟨q.1, q.2, Or.inl rfl⟩⟩
        · refine ky_ok hj (br_t rfl (ky_ok hl (br_t rfl (ky_ga ?_))))
          intro fo gu hgu
          refine ky_la (z := 16) hj hl (kq_no (fun g0 hg0 z => ?_)) ⟨rfl, I2⟩
          exact h2 (Int32.not_lt.mp (gl.mpr ((hgu g0 l hg0 hl).mp z.2.1).1))
    · exact kx_ok hj (br_f (by decide) (bX _ (br_t rfl (ky_ok hj (br_t rfl (bY _ (br_f (by decide) ⟨rfl, I⟩)))))))
  · exact bX _ (br_t rfl (bY _ (br_f (by decide) ⟨rfl, I⟩)))
theorem i_vc_heaviest {k : Nat} {u : SX} {v : SY} (I : i_Rel k u v) (hk : k + 3 ≤ 1536) : wpX_heaviest (fun r u' => wpY_heaviest (fun r' v' => r' = r ∧ i_Rel (k + 3) u' v') v) u := by
  obtain ⟨f_roots, f_fresh, f_reached, a_sizeOf, a_refers, a_number, a_order, a_treeParent, a_stack, a_untried, a_semi, a_idom, a_ancestor, a_label, a_path, a_bucketHead, a_bucketNext, a_keeperOf, a_depthOf, a_heldBy, a_first, a_last⟩ := u
  obtain ⟨b_size, b_root, b_refers, b_found, b_guard⟩ := v
  have I' : kr_R f_roots f_fresh a_sizeOf a_refers a_number a_keeperOf a_depthOf a_heldBy a_first a_last b_size b_root b_refers := I
  unfold wpX_heaviest wpY_heaviest
  refine kp_pr (kr_E I') I'.2.2.2.2 ?_
  intro fresh reached rf nu oa ta sk un se id an lb pa bh bn kp de he fa ra hrf gd
  have I2 := kr_nx (fresh := fresh) I' hrf gd
  obtain ⟨K, dp, g1, g2, g3, g4, g5, g6⟩ := gd
  have H : kv_T (ky_E b_root b_refers) K dp := ⟨fun v hv ha hne => ⟨(g2 v hv ha hne).1, (g2 v hv ha hne).2.1, (g2 v hv ha hne).2.2.2.1, (g2 v hv ha hne).2.2.2.2⟩, g3⟩
  have hsz : ∀ i, i < 17 → ∃ s, s ≤ 1000 ∧ a_sizeOf i = nI s := by
    intro i hi
    by_cases e : i = 16
    · subst e; exact ⟨0, by omega, I'.1⟩
    · obtain ⟨h1, s, h2, h3⟩ := I'.2.1 i (by omega)
      exact ⟨s, h2, h1.trans h3⟩
  obtain ⟨r, hX, hY⟩ := kh_ls (f_roots := f_roots) (f_fresh := fresh) (f_reached := reached) (a_sizeOf := a_sizeOf) (a_refers := rf) (a_number := nu) (a_order := oa) (a_treeParent := ta) (a_stack := sk) (a_untried := un) (a_semi := se) (a_idom := id) (a_ancestor := an) (a_label := lb) (a_path := pa) (a_bucketHead := bh) (a_bucketNext := bn) (a_keeperOf := kp) (a_depthOf := de) (a_heldBy := he) (a_first := fa) (a_last := ra) (b_size := b_size) (b_root := b_root) (b_refers := b_refers) (zf := K)
    (fun o ho hn => by
      obtain ⟨k1, k2, k3, _⟩ := g2 o (by omega) ((g1 o (by omega)).mp hn) (by omega)
      exact ⟨k1, k3⟩)
    (fun o ho hn => by
      obtain ⟨t, ht, et⟩ := kt_sum_b (p := fun o' => kt_b (kv_D (ky_E b_root b_refers) o o')) 16 (fun i hi => hsz i (by omega))
      refine ⟨t, by omega, ?_⟩
      rw [g5 o (by omega) ((g1 o (by omega)).mp hn), ← et]
      exact kq_sum I'.1 (fun i hi => ⟨rfl, rfl⟩))
    16 0 rfl (-1) (-1) (Or.inl ⟨rfl, rfl⟩)
  refine ⟨17, hX _ ?_⟩
  refine ky_ga ?_
  intro fo gu hgu
  refine ⟨17, hY fo gu ⟨fun o ho => ?_, fun o ho hn => ?_, fun o ho hn => ?_⟩ _ ⟨rfl, I2⟩⟩
  · rw [g1 o (by omega), hgu o o ho ho]
    exact ⟨fun q => kq_rf H (by omega) q, fun q => q.1⟩
  · have hal := (g1 o (by omega)).mp hn
    obtain ⟨k1, k2, _⟩ := g2 o (by omega) hal (by omega)
    exact kq_z H hgu k1 k2 (kq_kp H hgu ho hal)
  · rw [g5 o (by omega) ((g1 o (by omega)).mp hn)]
    exact (kq_sum I'.1 (fun i hi => ⟨(I'.2.1 i hi).1, (kt_b_d (hgu o i ho hi)).symm⟩)).symm
theorem i_vc_total {k : Nat} {u : SX} {v : SY} (I : i_Rel k u v) (hk : k + 3 ≤ 1536) : wpX_total (fun r u' => wpY_total (fun r' v' => r' = r ∧ i_Rel (k + 3) u' v') v) u := by
  obtain ⟨f_roots, f_fresh, f_reached, a_sizeOf, a_refers, a_number, a_order, a_treeParent, a_stack, a_untried, a_semi, a_idom, a_ancestor, a_label, a_path, a_bucketHead, a_bucketNext, a_keeperOf, a_depthOf, a_heldBy, a_first, a_last⟩ := u
  obtain ⟨b_size, b_root, b_refers, b_found, b_guard⟩ := v
  have I' : kr_R f_roots f_fresh a_sizeOf a_refers a_number a_keeperOf a_depthOf a_heldBy a_first a_last b_size b_root b_refers := I
  unfold wpX_total wpY_total
  refine kp_pr (kr_E I') I'.2.2.2.2 ?_
  intro fresh reached rf nu oa ta sk un se id an lb pa bh bn kp de he fa ra hrf gd
  have I2 := kr_nx (fresh := fresh) I' hrf gd
  obtain ⟨K, dp, g1, g2, g3, g4, g5, g6⟩ := gd
  refine ky_fa ?_
  intro fo f1 f2
  refine ky_to ⟨?_, I2⟩
  rw [g5 16 (by omega) (kv_al16 _)]
  refine (kq_sum I'.1 (fun i hi => ⟨(I'.2.1 i hi).1, ?_⟩)).symm
  refine (kt_b_d ?_).symm
  rw [f2 i hi]
  exact ⟨fun q => ⟨q, fun z => z.1 rfl⟩, fun q => q.1⟩
end
