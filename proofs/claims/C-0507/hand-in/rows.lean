section
/-! starting text: rows of kit/rows (PURE-ROWS, BITS), pasted -/
theorem pk_us {f : Nat → Int32} {k : Nat} {x : Int32} : upd f k x k = x := if_pos rfl
theorem pk_un {f : Nat → Int32} {k j : Nat} {x : Int32} (h : j ≠ k) : upd f k x j = f j := if_neg h
theorem pk_uLs {f : Nat → Int64} {k : Nat} {x : Int64} : vp_updL f k x k = x := if_pos rfl
theorem pk_uLn {f : Nat → Int64} {k j : Nat} {x : Int64} (h : j ≠ k) : vp_updL f k x j = f j := if_neg h
theorem pk_sub {a b : Nat} (h : b ≤ a) : nI a - nI b = nI (a - b) := by
  obtain ⟨c, rfl⟩ : ∃ c, a = c + b := ⟨a - b, by omega⟩
  rw [← nI_add, Int32.add_sub_cancel, Nat.add_sub_cancel]
theorem pk_m1 (n : Nat) : nI (n + 1) + (-1) = nI n := by
  rw [← nI_1, Int32.add_assoc, show (1 : Int32) + (-1) = 0 from rfl, Int32.add_zero]
theorem pk_mul (a b : Nat) : nI a * nI b = nI (a * b) := (Int32.ofNat_mul a b).symm
theorem pk_div {a d : Nat} (ha : a < 2 ^ 31) (h0 : 0 < d) (hd : d < 2 ^ 31) : nI a / nI d = nI (a / d) := by
  apply Int32.toInt_inj.mp
  rw [lg_idiv_nonneg (by rw [nI_toInt ha]; omega) (by rw [nI_toInt hd]; omega), nI_toInt ha, nI_toInt hd, nI_toInt (Nat.lt_of_le_of_lt (Nat.div_le_self a d) ha)]
  first | rfl | exact (Int.natCast_ediv _ _).symm
theorem pk_rem {a d : Nat} (ha : a < 2 ^ 31) (h0 : 0 < d) (hd : d < 2 ^ 31) : nI a - nI a / nI d * nI d = nI (a % d) := by
  rw [pk_div ha h0 hd, pk_mul, pk_sub (Nat.div_mul_le_self a d)]
  exact congrArg nI (by have := Nat.div_add_mod' a d; omega)
theorem pk_sub_toInt {a b : Nat} (ha : a < 2 ^ 30) (hb : b < 2 ^ 30) : (nI a - nI b).toInt = (a : Int) - b := by
  rw [Int32.toInt_sub, nI_toInt (by omega), nI_toInt (by omega)]
  exact Int.bmod_eq_of_le (by omega) (by omega)
theorem pk_sneg {a b : Nat} (hb : b < 2 ^ 30) (h : a < b) : nI a - nI b < 0 := by
  rw [Int32.lt_iff_toInt_lt, pk_sub_toInt (by omega) hb, show (0 : Int32).toInt = 0 from by decide]
  omega
theorem pk_ix (x : Int32) {n : Nat} (hn : n < 2 ^ 31) : x < 0 ∨ nI n ≤ x ∨ ∃ j : Nat, j < n ∧ x = nI j := by
  by_cases h : x < 0
  · exact Or.inl h
  · obtain ⟨j, hj, rfl⟩ := nI_of h
    by_cases h2 : j < n
    · exact Or.inr (Or.inr ⟨j, h2, rfl⟩)
    · exact Or.inr (Or.inl (nI_le (by omega) hj))
theorem pk_le {x y : Int32} {A B : Prop} (a b : Nat) (f : a ≤ b → A) (g : b < a → B) (hx : x = nI a := by rfl) (hy : y = nI b := by rfl) (ha : a < 2 ^ 31 := by omega) (hb : b < 2 ^ 31 := by omega) : (x ≤ y → A) ∧ (¬ x ≤ y → B) := by
  subst hx hy
  rw [nI_leI ha hb]
  exact ⟨f, fun z => g (by omega)⟩
theorem pk_lt {x y : Int32} {A B : Prop} (a b : Nat) (f : a < b → A) (g : b ≤ a → B) (hx : x = nI a := by rfl) (hy : y = nI b := by rfl) (ha : a < 2 ^ 31 := by omega) (hb : b < 2 ^ 31 := by omega) : (x < y → A) ∧ (¬ x < y → B) := by
  subst hx hy
  rw [nI_ltI ha hb]
  exact ⟨f, fun z => g (by omega)⟩
theorem pk_eq {x y : Int32} {A B : Prop} (a b : Nat) (f : a = b → A) (g : a ≠ b → B) (hx : x = nI a := by rfl) (hy : y = nI b := by rfl) (ha : a < 2 ^ 31 := by omega) (hb : b < 2 ^ 31 := by omega) : (x = y → A) ∧ (¬ x = y → B) := by
  subst hx hy
  rw [nI_eq ha hb]
  exact ⟨f, g⟩
theorem pk_in {x : Int32} (n N : Nat) (h : n < N) (hx : x = nI n := by rfl) (hN : N < 2 ^ 31 := by omega) : vp_in x N := by
  subst hx
  exact vp_in_nI h hN
theorem pk_cl {x : Int32} (n : Nat) (hx : x = nI n := by rfl) (h : n < 2 ^ 31 := by omega) : x.toNatClampNeg = n := by
  subst hx
  exact nI_clamp h
theorem pk_tn {n : Nat} (h : n < 2 ^ 32) : (nI n).toBitVec.toNat = n := Nat.mod_eq_of_lt h
theorem pk_and (x : Int32) {m : Int32} (k : Nat) (hm : m.toBitVec.toNat = 2 ^ k - 1) : x &&& m = nI (x.toBitVec.toNat % 2 ^ k) := by
  apply Int32.toBitVec_inj.mp
  apply BitVec.eq_of_toNat_eq
  rw [Int32.toBitVec_and, BitVec.toNat_and, hm, Nat.and_two_pow_sub_one_eq_mod]
  show _ = (BitVec.ofNat 32 _).toNat
  rw [BitVec.toNat_ofNat]
  exact (Nat.mod_eq_of_lt (Nat.lt_of_le_of_lt (Nat.mod_le _ _) x.toBitVec.isLt)).symm
theorem pk_andN {n : Nat} (h : n < 2 ^ 32) {m : Int32} (k : Nat) (hm : m.toBitVec.toNat = 2 ^ k - 1) : nI n &&& m = nI (n % 2 ^ k) := by
  rw [pk_and _ k hm, pk_tn h]
theorem pk_andE (x : Int32) {m : Int32} (k : Nat) (hm : m.toBitVec.toNat = 2 ^ k - 1) : ∃ j : Nat, j < 2 ^ k ∧ x &&& m = nI j := ⟨_, Nat.mod_lt _ (Nat.two_pow_pos k), pk_and x k hm⟩
theorem ek_if {c d A B : Prop} (e : c ↔ d) (f : d → A) (g : ¬ d → B) : (c → A) ∧ (¬ c → B) :=
  ⟨fun z => f (e.mp z), fun z => g (fun y => z (e.mpr y))⟩
/-! ===== Int32 by its bits: bt x i ===== -/
def bt (x : Int32) (i : Nat) : Bool := x.toBitVec.getLsbD i
theorem b_ext {x y : Int32} (h : ∀ i, i < 32 → bt x i = bt y i) : x = y := Int32.toBitVec_inj.mp (BitVec.eq_of_getLsbD_eq (fun i hi => h i hi))
theorem b_or (x y : Int32) (i : Nat) : bt (x ||| y) i = (bt x i || bt y i) := by unfold bt; rw [Int32.toBitVec_or, BitVec.getLsbD_or]
theorem b_and (x y : Int32) (i : Nat) : bt (x &&& y) i = (bt x i && bt y i) := by unfold bt; rw [Int32.toBitVec_and, BitVec.getLsbD_and]
theorem b_xor (x y : Int32) (i : Nat) : bt (x ^^^ y) i = (bt x i ^^ bt y i) := by unfold bt; rw [Int32.toBitVec_xor, BitVec.getLsbD_xor]
theorem b_big {x : Int32} {i : Nat} (h : 32 ≤ i) : bt x i = false := BitVec.getLsbD_of_ge _ _ h
theorem b_255 (i : Nat) : bt 255 i = decide (i < 8) := by
  rcases Nat.lt_or_ge i 32 with h | h
  · exact (by decide +kernel : ∀ i, i < 32 → bt 255 i = decide (i < 8)) i h
  · rw [b_big h, decide_eq_false (by omega)]
theorem b_65535 (i : Nat) : bt 65535 i = decide (i < 16) := by
  rcases Nat.lt_or_ge i 32 with h | h
  · exact (by decide +kernel : ∀ i, i < 32 → bt 65535 i = decide (i < 16)) i h
  · rw [b_big h, decide_eq_false (by omega)]
theorem b_m1 : ∀ i, i < 32 → bt (-1) i = true := by decide +kernel
theorem b_0 (i : Nat) : bt 0 i = false := BitVec.getLsbD_zero
theorem s_l : ∀ n, n < 32 → ((nI n &&& 31).toBitVec.smod 32).toNat = n := by decide +kernel
theorem s_u : ∀ n, n < 32 → (((nI n).toUInt32 &&& Int32.toUInt32 31).toBitVec % 32).toNat = n := by decide +kernel
theorem b_shl (n : Nat) (hn : n < 32) (x : Int32) {i : Nat} (hi : i < 32) : bt (x <<< (nI n &&& 31)) i = (decide (n ≤ i) && bt x (i - n)) := by
  unfold bt
  rw [Int32.toBitVec_shiftLeft]
  show (x.toBitVec <<< ((nI n &&& 31).toBitVec.smod 32).toNat).getLsbD i = _
  rw [s_l n hn, BitVec.getLsbD_shiftLeft]
  rcases Nat.lt_or_ge i n with h | h
  · simp [h, Nat.not_le.mpr h]
  · simp [hi, h, Nat.not_lt.mpr h]
theorem b_ushr (n : Nat) (hn : n < 32) (x : Int32) (i : Nat) : bt ((x.toUInt32 >>> ((nI n).toUInt32 &&& Int32.toUInt32 31)).toInt32) i = bt x (n + i) := by
  show (x.toUInt32 >>> ((nI n).toUInt32 &&& Int32.toUInt32 31)).toBitVec.getLsbD i = x.toUInt32.toBitVec.getLsbD (n + i)
  rw [UInt32.toBitVec_shiftRight]
  show (x.toUInt32.toBitVec >>> (((nI n).toUInt32 &&& Int32.toUInt32 31).toBitVec % 32).toNat).getLsbD i = _
  rw [s_u n hn, BitVec.getLsbD_ushiftRight]
end
section
/-! the board, pure: islands by cell, their ranks, the list of gaps -/
theorem bb_nf {x : Bool} (h : ¬ x = false) : x = true := by
  cases x
  · exact absurd rfl h
  · rfl
def bb_p (nu : Nat → Int32) (c : Nat) : Bool := decide (0 < nu c)
def bb_rk (p : Nat → Bool) : Nat → Nat
  | 0 => 0
  | c + 1 => bb_rk p c + (if p c = true then 1 else 0)
def bb_bit (c : Nat) : Int64 := (1 : Int64) <<< ((nI c).toInt64 &&& 63)
def bb_lk (p : Nat → Bool) (st : Nat) : Nat → Nat → Int64 → List (Nat × Int64)
  | 0, _, _ => []
  | r + 1, a, m => if p (a + st) = true then [(a + st, m)] else bb_lk p st r (a + st) (m ||| bb_bit (a + st))
def bb_gc (p : Nat → Bool) (c : Nat) : List (Nat × Nat × Int64) :=
  (bb_lk p 1 (5 - c % 6) c 0).map (fun x => (c, x)) ++ (bb_lk p 6 (5 - c / 6) c 0).map (fun x => (c, x))
def bb_gl (p : Nat → Bool) : Nat → List (Nat × Nat × Int64)
  | 0 => []
  | c + 1 => bb_gl p c ++ (if p c = true then bb_gc p c else [])
theorem bb_rk_t {p : Nat → Bool} {c : Nat} (h : p c = true) : bb_rk p (c + 1) = bb_rk p c + 1 := by
  show bb_rk p c + (if p c = true then 1 else 0) = _
  rw [if_pos h]
theorem bb_rk_f {p : Nat → Bool} {c : Nat} (h : p c = false) : bb_rk p (c + 1) = bb_rk p c := by
  show bb_rk p c + (if p c = true then 1 else 0) = _
  rw [h]; rfl
theorem bb_gl_t {p : Nat → Bool} {c : Nat} (h : p c = true) : bb_gl p (c + 1) = bb_gl p c ++ bb_gc p c := by
  show bb_gl p c ++ (if p c = true then bb_gc p c else []) = _
  rw [if_pos h]
theorem bb_gl_f {p : Nat → Bool} {c : Nat} (h : p c = false) : bb_gl p (c + 1) = bb_gl p c := by
  show bb_gl p c ++ (if p c = true then bb_gc p c else []) = _
  rw [h]; exact List.append_nil _
theorem bb_rk_mono (p : Nat → Bool) {a b : Nat} (h : a ≤ b) : bb_rk p a ≤ bb_rk p b := by
  induction h with
  | refl => exact Nat.le_refl _
  | step _ ih => exact Nat.le_trans ih (Nat.le_add_right _ _)
theorem bb_rk_lt {p : Nat → Bool} {a b : Nat} (h : a < b) (hp : p a = true) : bb_rk p a < bb_rk p b := by
  have h1 := bb_rk_mono p (show a + 1 ≤ b from h)
  have h2 := bb_rk_t hp
  omega
theorem bb_rk_inj {p : Nat → Bool} {a b : Nat} (ha : p a = true) (hb : p b = true) (h : bb_rk p a = bb_rk p b) : a = b := by
  rcases Nat.lt_trichotomy a b with z | z | z
  · have := bb_rk_lt z ha; omega
  · exact z
  · have := bb_rk_lt z hb; omega
theorem bb_rk_sur (p : Nat → Bool) : ∀ n i, i < bb_rk p n → ∃ c, c < n ∧ p c = true ∧ bb_rk p c = i := by
  intro n
  induction n with
  | zero => intro i h; exact absurd h (Nat.not_lt_zero _)
  | succ n ih =>
    intro i h
    by_cases hi : i < bb_rk p n
    · obtain ⟨c, a, b, d⟩ := ih i hi
      exact ⟨c, by omega, b, d⟩
    · cases hp : p n with
      | false => rw [bb_rk_f hp] at h; exact absurd h hi
      | true => rw [bb_rk_t hp] at h; exact ⟨n, by omega, hp, by omega⟩
theorem bb_gl_same (p : Nat → Bool) {a b : Nat} (h : a ≤ b) : bb_rk p a = bb_rk p b → bb_gl p a = bb_gl p b := by
  induction h with
  | refl => intro _; rfl
  | @step m hm ih =>
    intro e
    have h1 := bb_rk_mono p hm
    cases hp : p m with
    | false => rw [bb_gl_f hp]; rw [bb_rk_f hp] at e; exact ih e
    | true => rw [bb_rk_t hp] at e; omega
theorem bb_gl_eq (p : Nat → Bool) {a b : Nat} (e : bb_rk p a = bb_rk p b) : bb_gl p a = bb_gl p b := by
  rcases Nat.le_total a b with h | h
  · exact bb_gl_same p h e
  · exact (bb_gl_same p h e.symm).symm
theorem bb_lk_t {p : Nat → Bool} {st r a : Nat} {m : Int64} (h : p (a + st) = true) : bb_lk p st (r + 1) a m = [(a + st, m)] := by
  show (if p (a + st) = true then [(a + st, m)] else _) = _
  rw [if_pos h]
theorem bb_lk_f {p : Nat → Bool} {st r a : Nat} {m : Int64} (h : p (a + st) = false) : bb_lk p st (r + 1) a m = bb_lk p st r (a + st) (m ||| bb_bit (a + st)) := by
  show (if p (a + st) = true then [(a + st, m)] else _) = _
  rw [h]; rfl
theorem bb_lk_len (p : Nat → Bool) (st : Nat) : ∀ r a m, (bb_lk p st r a m).length ≤ 1 := by
  intro r
  induction r with
  | zero => intro a m; exact Nat.zero_le _
  | succ r ih =>
    intro a m
    cases hp : p (a + st) with
    | true => rw [bb_lk_t hp]; exact Nat.le_refl _
    | false => rw [bb_lk_f hp]; exact ih _ _
theorem bb_gc_len (p : Nat → Bool) (c : Nat) : (bb_gc p c).length ≤ 2 := by
  have h1 := bb_lk_len p 1 (5 - c % 6) c 0
  have h2 := bb_lk_len p 6 (5 - c / 6) c 0
  unfold bb_gc
  rw [List.length_append, List.length_map, List.length_map]
  omega
theorem bb_gl_len (p : Nat → Bool) : ∀ c, (bb_gl p c).length ≤ 2 * bb_rk p c := by
  intro c
  induction c with
  | zero => exact Nat.le_refl _
  | succ c ih =>
    cases hp : p c with
    | false => rw [bb_gl_f hp, bb_rk_f hp]; exact ih
    | true =>
      rw [bb_gl_t hp, bb_rk_t hp, List.length_append]
      have := bb_gc_len p c
      omega
theorem bb_lk_mem {p : Nat → Bool} {st : Nat} {x : Nat × Int64} : ∀ r a m, x ∈ bb_lk p st r a m → p x.1 = true ∧ x.1 ≤ a + st * r := by
  intro r
  induction r with
  | zero => intro a m h; exact absurd h (List.not_mem_nil)
  | succ r ih =>
    intro a m h
    have e : st * (r + 1) = st * r + st := Nat.mul_succ st r
    cases hp : p (a + st) with
    | true =>
      rw [bb_lk_t hp] at h
      cases List.mem_singleton.mp h
      exact ⟨hp, by dsimp only; omega⟩
    | false =>
      rw [bb_lk_f hp] at h
      obtain ⟨h1, h2⟩ := ih _ _ h
      exact ⟨h1, by omega⟩
theorem bb_gc_mem {p : Nat → Bool} {c : Nat} {x : Nat × Nat × Int64} (hc : c < 36) (h : x ∈ bb_gc p c) : x.1 = c ∧ x.2.1 < 36 ∧ p x.2.1 = true := by
  unfold bb_gc at h
  rcases List.mem_append.mp h with h | h
  · obtain ⟨y, hy, rfl⟩ := List.mem_map.mp h
    obtain ⟨h1, h2⟩ := bb_lk_mem _ _ _ hy
    exact ⟨rfl, by dsimp only; omega, h1⟩
  · obtain ⟨y, hy, rfl⟩ := List.mem_map.mp h
    obtain ⟨h1, h2⟩ := bb_lk_mem _ _ _ hy
    exact ⟨rfl, by dsimp only; omega, h1⟩
theorem bb_gl_mem {p : Nat → Bool} {x : Nat × Nat × Int64} : ∀ n, n ≤ 36 → x ∈ bb_gl p n → x.1 < 36 ∧ p x.1 = true ∧ x.2.1 < 36 ∧ p x.2.1 = true := by
  intro n
  induction n with
  | zero => intro _ h; exact absurd h (List.not_mem_nil)
  | succ n ih =>
    intro hn h
    cases hp : p n with
    | false => rw [bb_gl_f hp] at h; exact ih (by omega) h
    | true =>
      rw [bb_gl_t hp] at h
      rcases List.mem_append.mp h with h | h
      · exact ih (by omega) h
      · obtain ⟨h1, h2, h3⟩ := bb_gc_mem (by omega) h
        rw [h1]; exact ⟨by omega, hp, h2, h3⟩
/-- arrays hold the list of gaps, the cells seen through r -/
def bb_AL (r : Nat → Nat) (L : List (Nat × Nat × Int64)) (ne di : Nat → Int32) (be : Nat → Int64) : Prop :=
  ∀ g x, L[g]? = some x → ne g = nI (r x.1) ∧ di g = nI (r x.2.1) ∧ be g = x.2.2
theorem bb_AL_nil {r : Nat → Nat} {ne di : Nat → Int32} {be : Nat → Int64} : bb_AL r [] ne di be := by
  intro g x e
  rw [List.getElem?_nil] at e
  cases e
theorem bb_AL_push {r : Nat → Nat} {L : List (Nat × Nat × Int64)} {ne di : Nat → Int32} {be : Nat → Int64} (h : bb_AL r L ne di be) (x : Nat × Nat × Int64) :
    bb_AL r (L ++ [x]) (upd ne L.length (nI (r x.1))) (upd di L.length (nI (r x.2.1))) (vp_updL be L.length x.2.2) := by
  intro g y e
  rcases Nat.lt_trichotomy g L.length with z | z | z
  · rw [List.getElem?_append_left z] at e
    rw [pk_un (by omega), pk_un (by omega), pk_uLn (by omega)]
    exact h g y e
  · subst z
    rw [List.getElem?_concat_length] at e
    cases e
    exact ⟨pk_us, pk_us, pk_uLs⟩
  · have hl : (L ++ [x]).length ≤ g := by rw [List.length_append]; exact z
    rw [List.getElem?_eq_none hl] at e
    cases e
/-- the g-th gap: its near cell, its far cell, the cells between -/
def bb_ga (p : Nat → Bool) (g : Nat) : Nat := ((bb_gl p 36).getD g (0, 0, 0)).1
def bb_gb (p : Nat → Bool) (g : Nat) : Nat := ((bb_gl p 36).getD g (0, 0, 0)).2.1
def bb_gm (p : Nat → Bool) (g : Nat) : Int64 := ((bb_gl p 36).getD g (0, 0, 0)).2.2
def bb_G (p : Nat → Bool) : Nat := (bb_gl p 36).length
theorem bb_at_get (L : List (Nat × Nat × Int64)) {g : Nat} (h : g < L.length) : L[g]? = some ((L.getD g (0, 0, 0)).1, (L.getD g (0, 0, 0)).2.1, (L.getD g (0, 0, 0)).2.2) := by
  rw [List.getD_eq_getElem?_getD, List.getElem?_eq_getElem h]
  rfl
theorem bb_get {p : Nat → Bool} {g : Nat} (h : g < bb_G p) : (bb_gl p 36)[g]? = some (bb_ga p g, bb_gb p g, bb_gm p g) := by
  unfold bb_ga bb_gb bb_gm
  unfold bb_G at h
  generalize bb_gl p 36 = L at *
  exact bb_at_get L h
theorem bb_g_in {p : Nat → Bool} {g : Nat} (h : g < bb_G p) : bb_ga p g < 36 ∧ p (bb_ga p g) = true ∧ bb_gb p g < 36 ∧ p (bb_gb p g) = true := by
  have e := bb_get h
  generalize bb_ga p g = a at *
  generalize bb_gb p g = b at *
  generalize bb_gm p g = m at *
  exact bb_gl_mem (x := (a, b, m)) 36 (Nat.le_refl _) (List.mem_of_getElem? e)
theorem bb_AL_get {r : Nat → Nat} {p : Nat → Bool} {ne di : Nat → Int32} {be : Nat → Int64} (h : bb_AL r (bb_gl p 36) ne di be) {g : Nat} (hg : g < bb_G p) :
    ne g = nI (r (bb_ga p g)) ∧ di g = nI (r (bb_gb p g)) ∧ be g = bb_gm p g := by
  have e := bb_get hg
  generalize bb_ga p g = a at *
  generalize bb_gb p g = b at *
  generalize bb_gm p g = m at *
  generalize bb_gl p 36 = L at *
  exact h g (a, b, m) e
/-- the cell of the island with rank i -/
def bb_ce (p : Nat → Bool) (i : Nat) : Nat → Nat
  | 0 => 0
  | n + 1 => if p n = true ∧ bb_rk p n = i then n else bb_ce p i n
theorem bb_ce_at {p : Nat → Bool} {c : Nat} (hp : p c = true) : ∀ n, c < n → bb_ce p (bb_rk p c) n = c := by
  intro n
  induction n with
  | zero => intro h; exact absurd h (Nat.not_lt_zero _)
  | succ n ih =>
    intro h
    show (if p n = true ∧ bb_rk p n = bb_rk p c then n else bb_ce p (bb_rk p c) n) = c
    by_cases z : p n = true ∧ bb_rk p n = bb_rk p c
    · rw [if_pos z]; exact bb_rk_inj z.1 hp z.2
    · rw [if_neg z]
      have : c ≠ n := fun e => z (by rw [← e]; exact ⟨hp, rfl⟩)
      exact ih (by omega)
def bb_D (nu : Nat → Int32) (i : Nat) : Nat := (nu (bb_ce (bb_p nu) i 36)).toNatClampNeg
/-- numbers of a board: 0 to 8 -/
def bb_ok (nu : Nat → Int32) : Prop := ∀ c, c < 36 → ∃ m, m ≤ 8 ∧ nu c = nI m
theorem bb_p_t {nu : Nat → Int32} {c : Nat} (h : ¬ nu c ≤ 0) : bb_p nu c = true := decide_eq_true (Int32.not_le.mp h)
theorem bb_p_f {nu : Nat → Int32} {c : Nat} (h : nu c ≤ 0) : bb_p nu c = false := decide_eq_false (Int32.not_lt.mpr h)
theorem bb_p_iff {nu : Nat → Int32} {c : Nat} : nu c ≤ 0 ↔ bb_p nu c = false := by
  constructor
  · exact bb_p_f
  · intro h
    exact Int32.not_lt.mp (of_decide_eq_false h)
theorem bb_p_0 {nu : Nat → Int32} (ok : bb_ok nu) {c : Nat} (hc : c < 36) : nu c = 0 ↔ bb_p nu c = false := by
  obtain ⟨m, hm, e⟩ := ok c hc
  rw [← bb_p_iff, e]
  constructor
  · intro h; rw [h]; exact Int32.le_refl _
  · intro h
    have h1 : m ≤ 0 := by rw [← nI_0] at h; exact (nI_leI (by omega) (by omega)).mp h
    have h2 : m = 0 := by omega
    rw [h2]; rfl
theorem bb_D_at {nu : Nat → Int32} (ok : bb_ok nu) {c : Nat} (hc : c < 36) (hp : bb_p nu c = true) : nu c = nI (bb_D nu (bb_rk (bb_p nu) c)) ∧ bb_D nu (bb_rk (bb_p nu) c) ≤ 8 := by
  obtain ⟨m, hm, e⟩ := ok c hc
  have h : bb_D nu (bb_rk (bb_p nu) c) = m := by
    unfold bb_D
    rw [bb_ce_at hp 36 hc, e, nI_clamp (by omega)]
  rw [h]
  exact ⟨e, hm⟩
end
section
/-! X: look, listGaps -/
theorem bb_b1 : ∀ k, k < 32 → bt 1 k = decide (k = 0) := by decide +kernel
theorem bb_one {h : Nat} (hh : h < 32) (j : Nat) : bt ((1 : Int32) <<< (nI h &&& 31)) j = decide (j = h) := by
  rcases Nat.lt_or_ge j 32 with z | z
  · rw [b_shl h hh 1 z]
    rcases Nat.lt_or_ge j h with y | y
    · rw [decide_eq_false (Nat.not_le.mpr y), decide_eq_false (by omega)]; rfl
    · rw [decide_eq_true y, bb_b1 _ (by omega), Bool.true_and]
      by_cases w : j = h
      · rw [decide_eq_true w, decide_eq_true (by omega)]
      · rw [decide_eq_false w, decide_eq_false (by omega)]
  · rw [b_big z, decide_eq_false (by omega)]
def bb_Cm (m : Nat → Int64) (g h : Nat) : Bool := decide (h ≠ g ∧ ¬ (m g &&& m h) = 0)
def bb_C (p : Nat → Bool) (g h : Nat) : Bool := bb_Cm (bb_gm p) g h
def bb_BX (nu ce ne di cr : Nat → Int32) : Prop :=
  (∀ c, c < 36 → bb_p nu c = true → ce (bb_rk (bb_p nu) c) = nI c) ∧
  (∀ g, g < bb_G (bb_p nu) → ne g = nI (bb_rk (bb_p nu) (bb_ga (bb_p nu) g)) ∧ di g = nI (bb_rk (bb_p nu) (bb_gb (bb_p nu) g))) ∧
  (∀ g h, g < bb_G (bb_p nu) → h < bb_G (bb_p nu) → bt (cr g) h = bb_C (bb_p nu) g h)
theorem bb_rem6 {c : Nat} (hc : c < 36) : (5 : Int32) - (nI c - nI c / 6 * 6) = nI (5 - c % 6) := by
  show nI 5 - (nI c - nI c / nI 6 * nI 6) = _
  rw [pk_rem (by omega) (by omega) (by omega), pk_sub (by omega)]
theorem bb_div6 {c : Nat} (hc : c < 36) : (5 : Int32) - nI c / 6 = nI (5 - c / 6) := by
  show nI 5 - nI c / nI 6 = _
  rw [pk_div (by omega) (by omega) (by omega), pk_sub (by omega)]
section
variable {fI fL fG fS fC fM : Int32} {nu ce ix ne di : Nat → Int32} {be : Nat → Int64} {cr cw dm cg nb : Nat → Int32} {p : Nat → Bool}
theorem bb_xlook {post : SX → Prop} {L : List (Nat × Nat × Int64)} {c0 st room : Nat}
    (hix : ∀ c, c < 36 → ix c = if p c = true then nI (bb_rk p c) else -1)
    (hb : c0 + st * room < 36) (hroom : room ≤ 5) (hL : L.length < 16) (hR : bb_rk p 36 ≤ 7)
    (hA : bb_AL (bb_rk p) L ne di be) :
    ∀ r j m n, j + r = room → r < n →
    (∀ L' ne' di' be', L' = L ++ (bb_lk p st r (c0 + st * j) m).map (fun x => (c0, x)) → bb_AL (bb_rk p) L' ne' di' be' →
       post (fI, fL, nI L'.length, fS, fC, fM, nu, ce, ix, ne', di', be', cr, cw, dm, cg, nb)) →
    wX_look_6 post (nI (bb_rk p c0)) (nI c0) (nI st) (nI room) fI fL (nI L.length) fS fC fM nu ce ix ne di be cr cw dm cg nb n m (nI (j + 1)) := by
  intro r
  induction r with
  | zero =>
    intro j m n hj hn K
    obtain ⟨n, rfl⟩ : ∃ k, n = k + 1 := ⟨n - 1, by omega⟩
    exact br_t (nI_lt (by omega) (by omega)) (K L ne di be (List.append_nil L).symm hA)
  | succ r ih =>
    intro j m n hj hn K
    obtain ⟨n, rfl⟩ : ∃ k, n = k + 1 := ⟨n - 1, by omega⟩
    have e1 : st * (j + 1) = st * j + st := Nat.mul_succ st j
    have hle : st * (j + 1) ≤ st * room := Nat.mul_le_mul_left st (by omega)
    have hc : c0 + st * j + st < 36 := by omega
    have e2 : nI c0 + nI st * nI (j + 1) = nI (c0 + st * j + st) := by
      rw [pk_mul, nI_add, e1, Nat.add_assoc]
    refine br_f (nI_nlt (by omega) (by omega)) (nm_r e2 ⟨vp_in_nI hc (by omega), ?_⟩)
    rw [nI_clamp (show c0 + st * j + st < 2 ^ 31 by omega), nI_clamp (show L.length < 2 ^ 31 by omega)]
    cases hp : p (c0 + st * j + st) with
    | true =>
      have hi : ix (c0 + st * j + st) = nI (bb_rk p (c0 + st * j + st)) := by rw [hix _ hc, if_pos hp]
      have hrk := bb_rk_lt hc hp
      rw [hi]
      refine br_f (nI_pos (by omega)) ⟨vp_in_nI hL (by omega), nm_e ⟨vp_in_nI hc (by omega), vp_in_nI hL (by omega), nm_e ⟨vp_in_nI hL (by omega), nm_e (nm_r (nI_1 _) ?_)⟩⟩⟩
      have K' := K (L ++ [(c0, c0 + st * j + st, m)]) _ _ _ (by rw [bb_lk_t hp]; rfl) (bb_AL_push hA (c0, c0 + st * j + st, m))
      rw [List.length_append] at K'
      exact K'
    | false =>
      have hi : ix (c0 + st * j + st) = -1 := by rw [hix _ hc, hp]; rfl
      rw [hi]
      refine br_t (by decide) (nm_e (nm_r (nI_1 _) ?_))
      have e3 : c0 + st * (j + 1) = c0 + st * j + st := by omega
      rw [bb_lk_f hp, ← e3] at K
      rw [← e3]
      exact ih (j + 1) _ n (by omega) (by omega) K
theorem bb_wlook {post : SX → Prop} {L : List (Nat × Nat × Int64)} {c0 st room : Nat}
    (hix : ∀ c, c < 36 → ix c = if p c = true then nI (bb_rk p c) else -1)
    (hb : c0 + st * room < 36) (hroom : room ≤ 5) (hL : L.length < 16) (hR : bb_rk p 36 ≤ 7)
    (hA : bb_AL (bb_rk p) L ne di be)
    (K : ∀ L' ne' di' be', L' = L ++ (bb_lk p st room c0 0).map (fun x => (c0, x)) → bb_AL (bb_rk p) L' ne' di' be' →
       post (fI, fL, nI L'.length, fS, fC, fM, nu, ce, ix, ne', di', be', cr, cw, dm, cg, nb)) :
    wpX_look post (fI, fL, nI L.length, fS, fC, fM, nu, ce, ix, ne, di, be, cr, cw, dm, cg, nb) (nI (bb_rk p c0)) (nI c0) (nI st) (nI room) :=
  ⟨room + 1, bb_xlook hix hb hroom hL hR hA room 0 0 (room + 1) (by omega) (by omega) K⟩
end
section
variable {fI fL fG fS fC fM : Int32} {nu ce ix : Nat → Int32} {be : Nat → Int64} {ne di cw dm cg nb : Nat → Int32} {G : Nat} {m : Nat → Int64}
theorem bb_x144 {post : SX → Prop} {J : Int32 → (Nat → Int32) → (Nat → Int32) → (Nat → Int32) → (Nat → Int32) → (Nat → Int32) → (Nat → Int64) → (Nat → Int32) → (Nat → Int32) → (Nat → Int32) → (Nat → Int32) → (Nat → Int32) → Prop} {g : Nat} {cr : Nat → Int32}
    (hG : G ≤ 14) (hg : g < G) (hbe : ∀ g, g < G → be g = m g)
    (K : ∀ cr', (∀ j, bt (cr' g) j = (decide (j < G) && bb_Cm m g j)) → (∀ k, k ≠ g → cr' k = cr k) → J (nI (g + 1)) nu ce ix ne di be cr' cw dm cg nb) :
    ∀ d h n cr', h + d = G → d < n → (∀ j, bt (cr' g) j = (decide (j < h) && bb_Cm m g j)) → (∀ k, k ≠ g → cr' k = cr k) →
    wX_listGaps_144 post J (nI g) fI fL (nI (G)) fS fC fM n (nI h) nu ce ix ne di be cr' cw dm cg nb := by
  intro d
  induction d with
  | zero =>
    intro h n cr' hd hn I1 I2
    obtain ⟨n, rfl⟩ : ∃ k, n = k + 1 := ⟨n - 1, by omega⟩
    obtain rfl : h = G := by omega
    exact br_t (nI_le (by omega) (by omega)) (nm_r (nI_1 _) (K cr' I1 I2))
  | succ d ih =>
    intro h n cr' hd hn I1 I2
    obtain ⟨n, rfl⟩ : ∃ k, n = k + 1 := ⟨n - 1, by omega⟩
    have skip : bb_Cm m g h = false → wX_listGaps_144 post J (nI g) fI fL (nI (G)) fS fC fM n (nI (h + 1)) nu ce ix ne di be cr' cw dm cg nb := by
      intro hC
      refine ih (h + 1) n cr' (by omega) (by omega) ?_ I2
      intro j
      rw [I1 j]
      by_cases e : j = h
      · rw [e, hC, Bool.and_false, Bool.and_false]
      · rw [show decide (j < h + 1) = decide (j < h) from decide_eq_decide.mpr (by omega)]
    refine br_f (nI_ge (by omega) (by omega)) ?_
    refine pk_eq h g (fun e => nm_r (nI_1 _) (skip ?_)) (fun e => ⟨vp_in_nI (by omega) (by omega), vp_in_nI (by omega) (by omega), ?_⟩)
    · exact decide_eq_false (fun z => z.1 e)
    · rw [nI_clamp (show g < 2 ^ 31 by omega), nI_clamp (show h < 2 ^ 31 by omega), hbe g hg, hbe h (by omega)]
      refine br_c (fun z => nm_r (nI_1 _) (skip (decide_eq_false (fun y => y.2 z)))) (fun z => ⟨vp_in_nI (by omega) (by omega), vp_in_nI (by omega) (by omega), nm_e (nm_r (nI_1 _) ?_)⟩)
      have hC : bb_Cm m g h = true := decide_eq_true ⟨e, z⟩
      refine ih (h + 1) n _ (by omega) (by omega) ?_ ?_
      · intro j
        rw [pk_us, b_or, I1 j, bb_one (by omega)]
        by_cases e : j = h
        · rw [e, hC, decide_eq_true (show h = h from rfl), decide_eq_true (show h < h + 1 by omega), Bool.or_true]; rfl
        · rw [decide_eq_false e, Bool.or_false, show decide (j < h + 1) = decide (j < h) from decide_eq_decide.mpr (by omega)]
      · intro k hk
        rw [pk_un hk]; exact I2 k hk
theorem bb_x127 {post : SX → Prop}
    (hG : G ≤ 14) (hbe : ∀ g, g < G → be g = m g)
    (K : ∀ cr', (∀ g h, g < G → h < G → bt (cr' g) h = bb_Cm m g h) → post (fI, fL, nI (G), fS, fC, fM, nu, ce, ix, ne, di, be, cr', cw, dm, cg, nb)) :
    ∀ d g n cr, g + d = G → d < n → (∀ k h, k < g → h < G → bt (cr k) h = bb_Cm m k h) →
    wX_listGaps_127 post fI fL (nI (G)) fS fC fM n (nI g) nu ce ix ne di be cr cw dm cg nb := by
  intro d
  induction d with
  | zero =>
    intro g n cr hd hn I1
    obtain ⟨n, rfl⟩ : ∃ k, n = k + 1 := ⟨n - 1, by omega⟩
    obtain rfl : g = G := by omega
    exact br_t (nI_le (by omega) (by omega)) (K cr (fun k h hk hh => I1 k h hk hh))
  | succ d ih =>
    intro g n cr hd hn I1
    obtain ⟨n, rfl⟩ : ∃ k, n = k + 1 := ⟨n - 1, by omega⟩
    refine br_f (nI_ge (by omega) (by omega)) ⟨vp_in_nI (by omega) (by omega), ?_⟩
    rw [nI_clamp (show g < 2 ^ 31 by omega)]
    refine nm_e ⟨G + 1, ?_⟩
    refine bb_x144 (cr := upd cr g 0) hG (by omega) hbe ?_ (G) 0 (G + 1) _ (by omega) (by omega) ?_ (fun _ _ => rfl)
    · intro cr' h1 h2
      refine ih (g + 1) n cr' (by omega) (by omega) ?_
      intro k h hk hh
      by_cases e : k = g
      · rw [e, h1 h, decide_eq_true hh, Bool.true_and]
      · rw [h2 k e, pk_un e]; exact I1 k h (by omega) hh
    · intro j
      rw [pk_us, b_0, decide_eq_false (Nat.not_lt_zero _), Bool.false_and]
end
section
variable {fI fL fG fS fC fM : Int32} {nu ce ix : Nat → Int32} {cr cw dm cg nb : Nat → Int32} {p : Nat → Bool}
theorem bb_x77 {post : SX → Prop} (hR : bb_rk p 36 ≤ 7)
    (hix : ∀ c, c < 36 → ix c = if p c = true then nI (bb_rk p c) else -1)
    (hce : ∀ c, c < 36 → p c = true → ce (bb_rk p c) = nI c)
    (K : ∀ ne di be, bb_AL (bb_rk p) (bb_gl p 36) ne di be → ∃ n127, wX_listGaps_127 post fI (nI (bb_rk p 36)) (nI (bb_G p)) fS fC fM n127 0 nu ce ix ne di be cr cw dm cg nb) :
    ∀ d i n ne di be c, i + d = bb_rk p 36 → d < n → c ≤ 36 → bb_rk p c = i → bb_AL (bb_rk p) (bb_gl p c) ne di be →
    wX_listGaps_77 post n (nI i) fI (nI (bb_rk p 36)) (nI (bb_gl p c).length) fS fC fM nu ce ix ne di be cr cw dm cg nb := by
  intro d
  induction d with
  | zero =>
    intro i n ne di be c hd hn hc hi hA
    obtain ⟨n, rfl⟩ : ∃ k, n = k + 1 := ⟨n - 1, by omega⟩
    have e : bb_gl p c = bb_gl p 36 := bb_gl_eq p (by omega)
    rw [e] at hA ⊢
    exact br_t (nI_le (by omega) (by omega)) (K ne di be hA)
  | succ d ih =>
    intro i n ne di be c hd hn hc hi hA
    obtain ⟨n, rfl⟩ : ∃ k, n = k + 1 := ⟨n - 1, by omega⟩
    obtain ⟨c', hc', hp', hr'⟩ := bb_rk_sur p 36 i (by omega)
    have e : bb_gl p c = bb_gl p c' := bb_gl_eq p (by omega)
    rw [e] at hA ⊢
    have hl := bb_gl_len p c'
    have hcel : ce i = nI c' := by rw [← hr']; exact hce c' hc' hp'
    refine br_f (nI_ge (by omega) (by omega)) ⟨vp_in_nI (by omega) (by omega), ?_⟩
    rw [nI_clamp (show i < 2 ^ 31 by omega)]
    refine nm_r hcel ⟨by decide, ?_⟩
    rw [bb_rem6 hc', ← hr']
    refine bb_wlook (st := 1) hix (by omega) (by omega) (by omega) hR hA ?_
    intro L1 ne1 di1 be1 e1 hA1
    have hl1 : L1.length ≤ (bb_gl p c').length + 1 := by
      have := bb_lk_len p 1 (5 - c' % 6) c' 0
      rw [e1, List.length_append, List.length_map]; omega
    refine ⟨by decide, ?_⟩
    rw [bb_div6 hc']
    refine bb_wlook (st := 6) hix (by omega) (by omega) (by omega) hR hA1 ?_
    intro L2 ne2 di2 be2 e2 hA2
    have e3 : L2 = bb_gl p (c' + 1) := by
      rw [bb_gl_t hp', e2, e1, List.append_assoc]; rfl
    rw [e3] at hA2 ⊢
    refine nm_r (nI_1 _) ?_
    rw [← bb_rk_t hp']
    exact ih (bb_rk p (c' + 1)) n ne2 di2 be2 (c' + 1) (by rw [bb_rk_t hp']; omega) (by omega) (by omega) rfl hA2
end
section
variable {fI fL fG fS fC fM : Int32} {nu ne di : Nat → Int32} {be : Nat → Int64} {cr cw dm cg nb : Nat → Int32}
theorem bb_x12 {post : SX → Prop} (hR : bb_rk (bb_p nu) 36 ≤ 7)
    (K : ∀ ce ix, (∀ c, c < 36 → ix c = if bb_p nu c = true then nI (bb_rk (bb_p nu) c) else -1) → (∀ c, c < 36 → bb_p nu c = true → ce (bb_rk (bb_p nu) c) = nI c) →
      ∃ n77, wX_listGaps_77 post n77 0 fI (nI (bb_rk (bb_p nu) 36)) 0 fS fC fM nu ce ix ne di be cr cw dm cg nb) :
    ∀ d c n ce ix, c + d = 36 → d < n → (∀ j, j < c → ix j = if bb_p nu j = true then nI (bb_rk (bb_p nu) j) else -1) → (∀ j, j < c → bb_p nu j = true → ce (bb_rk (bb_p nu) j) = nI j) →
    wX_listGaps_12 post fI fG fS fC fM n (nI c) (nI (bb_rk (bb_p nu) c)) nu ce ix ne di be cr cw dm cg nb := by
  intro d
  induction d with
  | zero =>
    intro c n ce ix hd hn I1 I2
    obtain ⟨n, rfl⟩ : ∃ k, n = k + 1 := ⟨n - 1, by omega⟩
    obtain rfl : c = 36 := by omega
    exact br_t (nI_le (a := 36) (b := 36) (by omega) (by omega)) (K ce ix I1 I2)
  | succ d ih =>
    intro c n ce ix hd hn I1 I2
    obtain ⟨n, rfl⟩ : ∃ k, n = k + 1 := ⟨n - 1, by omega⟩
    have hm := bb_rk_mono (bb_p nu) (show c ≤ 36 by omega)
    refine br_f (nI_ge (b := 36) (by omega) (by omega)) ⟨vp_in_nI (by omega) (by omega), ?_⟩
    rw [nI_clamp (show c < 2 ^ 31 by omega), nI_clamp (show bb_rk (bb_p nu) c < 2 ^ 31 by omega)]
    refine nm_e ⟨vp_in_nI (by omega) (by omega), ek_if bb_p_iff (fun hp => nm_r (nI_1 _) ?_) (fun hp => ⟨vp_in_nI (by omega) (by omega), nm_e ⟨vp_in_nI (by omega) (by omega), nm_e (nm_r (nI_1 _) (nm_r (nI_1 _) ?_))⟩⟩)⟩
    · rw [← bb_rk_f hp]
      refine ih (c + 1) n _ _ (by omega) (by omega) ?_ ?_
      · intro j hj
        by_cases e : j = c
        · rw [e, pk_us, hp]; rfl
        · rw [pk_un e]; exact I1 j (by omega)
      · intro j hj hpj
        by_cases e : j = c
        · rw [e, hp] at hpj; cases hpj
        · exact I2 j (by omega) hpj
    · have hp' : bb_p nu c = true := by
        cases h : bb_p nu c
        · exact absurd h hp
        · rfl
      rw [← bb_rk_t hp']
      refine ih (c + 1) n _ _ (by omega) (by omega) ?_ ?_
      · intro j hj
        by_cases e : j = c
        · rw [e, pk_us, if_pos hp']
        · rw [pk_un e, pk_un e]; exact I1 j (by omega)
      · intro j hj hpj
        by_cases e : j = c
        · rw [e, pk_us]
        · have := bb_rk_lt (show j < c by omega) hpj
          rw [pk_un (by omega)]; exact I2 j (by omega) hpj
end
section
variable {fI fL fG fS fC fM : Int32} {nu ce ix ne di : Nat → Int32} {be : Nat → Int64} {cr cw dm cg nb : Nat → Int32}
theorem bb_wlist {post : SX → Prop} (hR : bb_rk (bb_p nu) 36 ≤ 7)
    (K : ∀ ce ix ne di be cr, bb_BX nu ce ne di cr → post (fI, nI (bb_rk (bb_p nu) 36), nI (bb_G (bb_p nu)), 0, fC, fM, nu, ce, ix, ne, di, be, cr, cw, dm, cg, nb)) :
    wpX_listGaps post (fI, fL, fG, fS, fC, fM, nu, ce, ix, ne, di, be, cr, cw, dm, cg, nb) := by
  have hl := bb_gl_len (bb_p nu) 36
  have hG : bb_G (bb_p nu) ≤ 14 := by unfold bb_G; omega
  refine ⟨37, bb_x12 hR ?_ 36 0 37 ce ix (by omega) (by omega) (fun j hj => absurd hj (Nat.not_lt_zero _)) (fun j hj => absurd hj (Nat.not_lt_zero _))⟩
  intro ce ix hix hce
  refine ⟨8, bb_x77 hR hix hce ?_ (bb_rk (bb_p nu) 36) 0 8 ne di be 0 (by omega) (by omega) (by omega) rfl bb_AL_nil⟩
  intro ne di be hA
  refine ⟨bb_G (bb_p nu) + 1, bb_x127 (m := bb_gm (bb_p nu)) hG (fun g hg => (bb_AL_get hA hg).2.2) ?_ (bb_G (bb_p nu)) 0 _ cr (by omega) (by omega) (fun k h hk => absurd hk (Nat.not_lt_zero _))⟩
  intro cr' hcr
  exact K ce ix ne di be cr' ⟨hce, fun g hg => ⟨(bb_AL_get hA hg).1, (bb_AL_get hA hg).2.1⟩, hcr⟩
end
end
section
/-! Y: look, survey, held -/
section
variable {nu : Nat → Int32} {yg : Int32} {yn yf : Nat → Int32} {yb : Nat → Int64} {br re : Nat → Int32}
theorem bb_ylook {post : SY → Prop} {L : List (Nat × Nat × Int64)} {c0 st room : Nat}
    (hroom : room ≤ 5) (hL : L.length < 16) (hA : bb_AL (fun c => c) L yn yf yb) :
    ∀ r j a m n, j + r = room → r < n → a + st * r < 36 →
    (∀ L' yn' yf' yb', L' = L ++ (bb_lk (bb_p nu) st r a m).map (fun x => (c0, x)) → bb_AL (fun c => c) L' yn' yf' yb' →
       post (nI L'.length, nu, yn', yf', yb', br, re)) →
    wY_look_9 post (nI c0) (nI st) (nI room) (nI L.length) nu yn yf yb br re n m (nI a) (nI j) := by
  intro r
  induction r with
  | zero =>
    intro j a m n hj hn ha K
    obtain ⟨n, rfl⟩ : ∃ k, n = k + 1 := ⟨n - 1, by omega⟩
    exact br_t (nI_le (by omega) (by omega)) (K L yn yf yb (List.append_nil L).symm hA)
  | succ r ih =>
    intro j a m n hj hn ha K
    obtain ⟨n, rfl⟩ : ∃ k, n = k + 1 := ⟨n - 1, by omega⟩
    have e1 : st * (r + 1) = st * r + st := Nat.mul_succ st r
    have hc : a + st < 36 := by omega
    refine br_f (nI_ge (by omega) (by omega)) (nm_r (nI_add _ _) (br_t (nI_le (b := 35) (by omega) (by omega)) ⟨vp_in_nI hc (by omega), ?_⟩))
    rw [nI_clamp (show a + st < 2 ^ 31 by omega), nI_clamp (show L.length < 2 ^ 31 by omega)]
    refine ek_if bb_p_iff (fun hp => nm_e (nm_r (nI_1 _) ?_)) (fun hp => br_f (nI_ge (b := 16) hL (by omega)) ⟨vp_in_nI hL (by omega), nm_e ⟨vp_in_nI hL (by omega), nm_e ⟨vp_in_nI hL (by omega), nm_e (nm_r (nI_1 _) ?_)⟩⟩⟩)
    · rw [bb_lk_f hp] at K
      exact ih (j + 1) (a + st) _ n (by omega) (by omega) (by omega) K
    · have hp' : bb_p nu (a + st) = true := by
        cases h : bb_p nu (a + st)
        · exact absurd h hp
        · rfl
      have K' := K (L ++ [(c0, a + st, m)]) _ _ _ (by rw [bb_lk_t hp']; rfl) (bb_AL_push hA (c0, a + st, m))
      rw [List.length_append] at K'
      exact K'
theorem bb_wylook {post : SY → Prop} {L : List (Nat × Nat × Int64)} {c0 st room : Nat}
    (hb : c0 + st * room < 36) (hroom : room ≤ 5) (hL : L.length < 16) (hA : bb_AL (fun c => c) L yn yf yb)
    (K : ∀ L' yn' yf' yb', L' = L ++ (bb_lk (bb_p nu) st room c0 0).map (fun x => (c0, x)) → bb_AL (fun c => c) L' yn' yf' yb' →
       post (nI L'.length, nu, yn', yf', yb', br, re)) :
    wpY_look post (nI L.length, nu, yn, yf, yb, br, re) (nI c0) (nI st) (nI room) :=
  ⟨room + 1, bb_ylook hroom hL hA room 0 c0 0 (room + 1) (by omega) (by omega) hb K⟩
end
section
variable {nu br re : Nat → Int32}
theorem bb_y7 {post : SY → Prop} (hR : bb_rk (bb_p nu) 36 ≤ 7)
    (K : ∀ yn yf yb, bb_AL (fun c => c) (bb_gl (bb_p nu) 36) yn yf yb → post (nI (bb_G (bb_p nu)), nu, yn, yf, yb, br, re)) :
    ∀ d c n yn yf yb, c + d = 36 → d < n → bb_AL (fun c => c) (bb_gl (bb_p nu) c) yn yf yb →
    wY_survey_7 post n (nI c) (nI (bb_gl (bb_p nu) c).length) nu yn yf yb br re := by
  intro d
  induction d with
  | zero =>
    intro c n yn yf yb hd hn hA
    obtain ⟨n, rfl⟩ : ∃ k, n = k + 1 := ⟨n - 1, by omega⟩
    obtain rfl : c = 36 := by omega
    exact br_t (nI_le (a := 36) (b := 36) (by omega) (by omega)) (K yn yf yb hA)
  | succ d ih =>
    intro c n yn yf yb hd hn hA
    obtain ⟨n, rfl⟩ : ∃ k, n = k + 1 := ⟨n - 1, by omega⟩
    have hl := bb_gl_len (bb_p nu) c
    refine br_f (nI_ge (b := 36) (by omega) (by omega)) ⟨vp_in_nI (by omega) (by omega), ?_⟩
    rw [nI_clamp (show c < 2 ^ 31 by omega)]
    refine ek_if bb_p_iff (fun hp => nm_r (nI_1 _) ?_) (fun hp => ⟨by decide, ?_⟩)
    · rw [← bb_gl_f hp] at hA ⊢
      exact ih (c + 1) n yn yf yb (by omega) (by omega) hA
    · have hp' : bb_p nu c = true := by
        cases h : bb_p nu c
        · exact absurd h hp
        · rfl
      have hr := bb_rk_lt (show c < 36 by omega) hp'
      rw [bb_rem6 (by omega)]
      refine bb_wylook (st := 1) (by omega) (by omega) (by omega) hA ?_
      intro L1 yn1 yf1 yb1 e1 hA1
      have hl1 : L1.length ≤ (bb_gl (bb_p nu) c).length + 1 := by
        have := bb_lk_len (bb_p nu) 1 (5 - c % 6) c 0
        rw [e1, List.length_append, List.length_map]; omega
      refine ⟨by decide, ?_⟩
      rw [bb_div6 (by omega)]
      refine bb_wylook (st := 6) (by omega) (by omega) (by omega) hA1 ?_
      intro L2 yn2 yf2 yb2 e2 hA2
      have e3 : L2 = bb_gl (bb_p nu) (c + 1) := by
        rw [bb_gl_t hp', e2, e1, List.append_assoc]; rfl
      rw [e3] at hA2 ⊢
      exact nm_r (nI_1 _) (ih (c + 1) n yn2 yf2 yb2 (by omega) (by omega) hA2)
theorem bb_wsurvey {post : SY → Prop} {yg : Int32} {yn yf : Nat → Int32} {yb : Nat → Int64} {br re : Nat → Int32} (hR : bb_rk (bb_p nu) 36 ≤ 7)
    (K : ∀ yn yf yb, bb_AL (fun c => c) (bb_gl (bb_p nu) 36) yn yf yb → post (nI (bb_G (bb_p nu)), nu, yn, yf, yb, br, re)) :
    wpY_survey post (yg, nu, yn, yf, yb, br, re) :=
  ⟨37, bb_y7 hR K 36 0 37 yn yf yb (by omega) (by omega) bb_AL_nil⟩
theorem bb_y4 {post : Int32 → Prop} {yg : Int32} {yn yf : Nat → Int32} {yb : Nat → Int64} {br re : Nat → Int32} (K : post (nI (bb_rk (bb_p nu) 36))) :
    ∀ d c n, c + d = 36 → d < n → wY_held_4 post yg nu yn yf yb br re n (nI (bb_rk (bb_p nu) c)) (nI c) := by
  intro d
  induction d with
  | zero =>
    intro c n hd hn
    obtain ⟨n, rfl⟩ : ∃ k, n = k + 1 := ⟨n - 1, by omega⟩
    obtain rfl : c = 36 := by omega
    exact br_t (nI_le (a := 36) (b := 36) (by omega) (by omega)) K
  | succ d ih =>
    intro c n hd hn
    obtain ⟨n, rfl⟩ : ∃ k, n = k + 1 := ⟨n - 1, by omega⟩
    refine br_f (nI_ge (b := 36) (by omega) (by omega)) ⟨vp_in_nI (by omega) (by omega), ?_⟩
    rw [nI_clamp (show c < 2 ^ 31 by omega)]
    refine ek_if bb_p_iff (fun hp => nm_r (nI_1 _) ?_) (fun hp => nm_r (nI_1 _) (nm_r (nI_1 _) ?_))
    · rw [← bb_rk_f hp]; exact ih (c + 1) n (by omega) (by omega)
    · have hp' : bb_p nu c = true := by
        cases h : bb_p nu c
        · exact absurd h hp
        · rfl
      rw [← bb_rk_t hp']; exact ih (c + 1) n (by omega) (by omega)
theorem bb_wheld {post : Int32 → Prop} {yg : Int32} {yn yf : Nat → Int32} {yb : Nat → Int64} {br re : Nat → Int32} (K : post (nI (bb_rk (bb_p nu) 36))) : wpY_held post (yg, nu, yn, yf, yb, br, re) :=
  ⟨37, bb_y4 K 36 0 37 (by omega) (by omega)⟩
end
end
section
/-! the puzzle by indices, pure: G gaps, I islands, ends A and B, numbers D, crossings C -/
def bb_to (A B : Nat → Nat) (i g : Nat) : Bool := decide (A g = i ∨ B g = i)
def bb_sm (t : Nat → Bool) (f : Nat → Nat) : Nat → Nat
  | 0 => 0
  | g + 1 => bb_sm t f g + (if t g = true then f g else 0)
def bb_rs (A B : Nat → Nat) (u : Nat → Bool) (R : Nat → Bool) (g : Nat) (i : Nat) : Bool :=
  R i || ((u g && (R (A g) || R (B g))) && (decide (i = A g) || decide (i = B g)))
def bb_rw (A B : Nat → Nat) (u : Nat → Bool) (R : Nat → Bool) : Nat → Nat → Bool
  | 0 => R
  | g + 1 => bb_rs A B u (bb_rw A B u R g) g
def bb_rr (A B : Nat → Nat) (u : Nat → Bool) (G : Nat) : Nat → Nat → Bool
  | 0 => fun i => decide (i = 0)
  | k + 1 => bb_rw A B u (bb_rr A B u G k) G
def bb_Cn (G I : Nat) (A B : Nat → Nat) (u : Nat → Bool) : Prop := ∀ i, i < I → bb_rr A B u G 7 i = true
def bb_Sol (G I : Nat) (A B D : Nat → Nat) (C : Nat → Nat → Bool) (b : Nat → Nat) : Prop :=
  (∀ i, i < I → bb_sm (bb_to A B i) b G = D i) ∧
  (∀ g h, g < G → h < G → C g h = true → b g = 0 ∨ b h = 0) ∧
  bb_Cn G I A B (fun g => decide (b g ≠ 0))
theorem bb_sm_t {t : Nat → Bool} {f : Nat → Nat} {g : Nat} (h : t g = true) : bb_sm t f (g + 1) = bb_sm t f g + f g := by
  show bb_sm t f g + (if t g = true then f g else 0) = _
  rw [if_pos h]
theorem bb_sm_f {t : Nat → Bool} {f : Nat → Nat} {g : Nat} (h : t g = false) : bb_sm t f (g + 1) = bb_sm t f g := by
  show bb_sm t f g + (if t g = true then f g else 0) = _
  rw [h]; rfl
theorem bb_sm_le {t : Nat → Bool} {f f' : Nat → Nat} : ∀ n, (∀ g, g < n → f g ≤ f' g) → bb_sm t f n ≤ bb_sm t f' n := by
  intro n
  induction n with
  | zero => intro _; exact Nat.le_refl _
  | succ n ih =>
    intro h
    have h1 := ih (fun g hg => h g (by omega))
    have h2 := h n (by omega)
    cases ht : t n with
    | true => rw [bb_sm_t ht, bb_sm_t ht]; omega
    | false => rw [bb_sm_f ht, bb_sm_f ht]; omega
theorem bb_sm_2 {t : Nat → Bool} {f : Nat → Nat} : ∀ n, (∀ g, f g ≤ 2) → bb_sm t f n ≤ 2 * n := by
  intro n h
  induction n with
  | zero => exact Nat.le_refl _
  | succ n ih =>
    have h2 := h n
    cases ht : t n with
    | true => rw [bb_sm_t ht]; omega
    | false => rw [bb_sm_f ht]; omega
theorem bb_sm_eq {t : Nat → Bool} {f f' : Nat → Nat} : ∀ n, (∀ g, g < n → f g = f' g) → bb_sm t f n = bb_sm t f' n := by
  intro n
  induction n with
  | zero => intro _; rfl
  | succ n ih =>
    intro h
    show bb_sm t f n + (if t n = true then f n else 0) = bb_sm t f' n + (if t n = true then f' n else 0)
    rw [ih (fun g hg => h g (by omega)), h n (by omega)]
/-- one summand raised alone -/
theorem bb_sm_one {t : Nat → Bool} {f f' : Nat → Nat} {g : Nat} (ht : t g = true) : ∀ n, g < n → (∀ g, g < n → f g ≤ f' g) → bb_sm t f n + f' g ≤ bb_sm t f' n + f g := by
  intro n
  induction n with
  | zero => intro h; exact absurd h (Nat.not_lt_zero _)
  | succ n ih =>
    intro hg h
    by_cases e : g = n
    · have h1 := bb_sm_le (t := t) n (fun g hg => h g (by omega))
      rw [← e] at h1 ⊢
      rw [bb_sm_t ht, bb_sm_t ht]; omega
    · have h1 := ih (by omega) (fun g hg => h g (by omega))
      have h2 := h n (by omega)
      cases ht : t n with
      | true => rw [bb_sm_t ht, bb_sm_t ht]; omega
      | false => rw [bb_sm_f ht, bb_sm_f ht]; omega
theorem bb_rs_mono {A B : Nat → Nat} {u u' R R' : Nat → Bool} {g : Nat} (hu : u g = true → u' g = true) (hR : ∀ i, R i = true → R' i = true) : ∀ i, bb_rs A B u R g i = true → bb_rs A B u' R' g i = true := by
  intro i h
  unfold bb_rs at h ⊢
  have h1 := hR i
  have h2 := hR (A g)
  have h3 := hR (B g)
  revert h hu h1 h2 h3
  generalize R i = x1
  generalize R (A g) = x2
  generalize R (B g) = x3
  generalize R' i = y1
  generalize R' (A g) = y2
  generalize R' (B g) = y3
  generalize u g = z1
  generalize u' g = z2
  generalize (decide (i = A g) || decide (i = B g)) = w
  cases x1 <;> cases x2 <;> cases x3 <;> cases y1 <;> cases y2 <;> cases y3 <;> cases z1 <;> cases z2 <;> cases w <;> decide
theorem bb_rw_mono {A B : Nat → Nat} {u u' : Nat → Bool} : ∀ n {R R' : Nat → Bool}, (∀ g, g < n → u g = true → u' g = true) → (∀ i, R i = true → R' i = true) → ∀ i, bb_rw A B u R n i = true → bb_rw A B u' R' n i = true := by
  intro n
  induction n with
  | zero => intro R R' _ hR; exact hR
  | succ n ih =>
    intro R R' hu hR
    exact bb_rs_mono (hu n (by omega)) (ih (fun g hg => hu g (by omega)) hR)
theorem bb_rr_mono {A B : Nat → Nat} {u u' : Nat → Bool} {G : Nat} (hu : ∀ g, g < G → u g = true → u' g = true) : ∀ k i, bb_rr A B u G k i = true → bb_rr A B u' G k i = true := by
  intro k
  induction k with
  | zero => intro i h; exact h
  | succ k ih => exact bb_rw_mono G hu ih
theorem bb_Cn_mono {G I : Nat} {A B : Nat → Nat} {u u' : Nat → Bool} (hu : ∀ g, g < G → u g = true → u' g = true) (h : bb_Cn G I A B u) : bb_Cn G I A B u' :=
  fun i hi => bb_rr_mono hu 7 i (h i hi)
/-- what is reached stays among the islands -/
theorem bb_rw_in {A B : Nat → Nat} {u R : Nat → Bool} {I : Nat} : ∀ n, (∀ g, g < n → A g < I ∧ B g < I) → (∀ i, R i = true → i < I) → ∀ i, bb_rw A B u R n i = true → i < I := by
  intro n
  induction n with
  | zero => intro _ hR; exact hR
  | succ n ih =>
    intro hAB hR i h
    have h : bb_rs A B u (bb_rw A B u R n) n i = true := h
    unfold bb_rs at h
    rcases Bool.or_eq_true _ _ |>.mp h with h | h
    · exact ih (fun g hg => hAB g (by omega)) hR i h
    · have h := (Bool.and_eq_true _ _ |>.mp h).2
      have hn := hAB n (by omega)
      rcases Bool.or_eq_true _ _ |>.mp h with h | h
      · have := of_decide_eq_true h; omega
      · have := of_decide_eq_true h; omega
theorem bb_rr_in {A B : Nat → Nat} {u : Nat → Bool} {I G : Nat} (hI : 0 < I) (hAB : ∀ g, g < G → A g < I ∧ B g < I) : ∀ k i, bb_rr A B u G k i = true → i < I := by
  intro k
  induction k with
  | zero =>
    intro i h
    have := of_decide_eq_true (show decide (i = 0) = true from h)
    omega
  | succ k ih => exact bb_rw_in G hAB ih
/-! states: bit 3 g + j says that gap g may have j bridges -/
def bb_lo (s : Int32) (g : Nat) : Nat := if bt s (3 * g) = true then 0 else if bt s (3 * g + 1) = true then 1 else 2
def bb_hi (s : Int32) (g : Nat) : Nat := if bt s (3 * g + 2) = true then 2 else if bt s (3 * g + 1) = true then 1 else 0
def bb_In (G : Nat) (s : Int32) (b : Nat → Nat) : Prop := ∀ g, g < G → b g < 3 ∧ bt s (3 * g + b g) = true
def bb_ne (s : Int32) (g : Nat) : Prop := bt s (3 * g) = true ∨ bt s (3 * g + 1) = true ∨ bt s (3 * g + 2) = true
def bb_WF (G : Nat) (s : Int32) : Prop := (∀ i, 3 * G ≤ i → bt s i = false) ∧ ∀ g, g < G → bb_ne s g
def bb_Sb (r s : Int32) : Prop := ∀ i, bt r i = true → bt s i = true
/-- what a narrowing gives: -1 and nothing is lost, or a smaller state and nothing is lost; if it is the same state, then it stands the check -/
def bb_NS (Sol : (Nat → Nat) → Prop) (G : Nat) (P : Prop) (s r : Int32) : Prop :=
  (r = -1 ∧ ∀ b, Sol b → ¬ bb_In G s b) ∨ (bb_WF G r ∧ bb_Sb r s ∧ (∀ b, Sol b → bb_In G s b → bb_In G r b) ∧ (r = s → P))
theorem bb_Sb_eq {r s : Int32} (h1 : bb_Sb r s) (h2 : bb_Sb s r) : r = s := by
  apply b_ext
  intro i _
  have a := h1 i
  have b := h2 i
  revert a b
  cases bt r i <;> cases bt s i <;> simp
theorem bb_NS_comp {Sol : (Nat → Nat) → Prop} {G : Nat} {P Q PQ : Prop} {s r t : Int32}
    (h : bb_WF G r ∧ bb_Sb r s ∧ (∀ b, Sol b → bb_In G s b → bb_In G r b) ∧ (r = s → P)) (h2 : bb_NS Sol G Q r t) (f : r = s → P → Q → PQ) : bb_NS Sol G PQ s t := by
  obtain ⟨h1, hS, hI, hP⟩ := h
  rcases h2 with ⟨e, hn⟩ | ⟨w, hS2, hI2, hQ⟩
  · exact Or.inl ⟨e, fun b hb hs => hn b hb (hI b hb hs)⟩
  · refine Or.inr ⟨w, fun i hi => hS i (hS2 i hi), fun b hb hs => hI2 b hb (hI b hb hs), fun e => ?_⟩
    have e1 : r = s := bb_Sb_eq hS (by rw [← e]; exact hS2)
    exact f e1 (hP e1) (hQ (e.trans e1.symm))
theorem bb_NS_self {Sol : (Nat → Nat) → Prop} {G : Nat} {P : Prop} {s : Int32} (h : bb_WF G s) (hP : P) : bb_NS Sol G P s s :=
  Or.inr ⟨h, fun _ h => h, fun _ _ h => h, fun _ => hP⟩
theorem bb_nneg {r : Int32} (h : bt r 31 = false) : ¬ r < 0 := by
  rw [Int32.lt_iff_toInt_lt]
  show ¬ r.toBitVec.toInt < 0
  have e : r.toBitVec.msb = false := by
    rw [BitVec.msb_eq_getLsbD_last]; exact h
  rw [BitVec.msb_eq_toInt] at e
  exact of_decide_eq_false e
theorem bb_WF_nn {G : Nat} {s : Int32} (hG : G ≤ 8) (h : bb_WF G s) : ¬ s < 0 := bb_nneg (h.1 31 (by omega))
theorem bb_WF_0 {G : Nat} {s : Int32} (hG : G ≤ 8) (h : bb_WF G s) : (0 : Int32) ≤ s := Int32.not_lt.mp (bb_WF_nn hG h)
theorem bb_In_lo {G : Nat} {s : Int32} {b : Nat → Nat} (h : bb_In G s b) {g : Nat} (hg : g < G) : bb_lo s g ≤ b g ∧ b g ≤ bb_hi s g := by
  obtain ⟨h1, h2⟩ := h g hg
  unfold bb_lo bb_hi
  generalize b g = k at *
  match k, h1 with
  | 0, _ => rw [if_pos (show bt s (3 * g) = true from h2)]; exact ⟨Nat.le_refl _, Nat.zero_le _⟩
  | 1, _ =>
    rw [if_pos h2, if_pos h2]
    constructor
    · split <;> omega
    · split <;> omega
  | 2, _ =>
    rw [if_pos h2]
    constructor
    · split
      · omega
      · split <;> omega
    · exact Nat.le_refl _
theorem bb_lo2 (s : Int32) (g : Nat) : bb_lo s g ≤ 2 := by
  unfold bb_lo
  split
  · omega
  · split <;> omega
theorem bb_hi2 (s : Int32) (g : Nat) : bb_hi s g ≤ 2 := by
  unfold bb_hi
  split
  · omega
  · split <;> omega
end
section
/-! X: domainOf, lowest, highest, restrict, setFrom -/
def bb_dv (x y z : Bool) : Nat := (if x = true then 1 else 0) + (if y = true then 2 else 0) + (if z = true then 4 else 0)
def bb_dn (s : Int32) (g : Nat) : Nat := bb_dv (bt s (3 * g)) (bt s (3 * g + 1)) (bt s (3 * g + 2))
theorem bb_dv_bt (x y z : Bool) : ∀ i, i < 32 → bt (nI (bb_dv x y z)) i = if i = 0 then x else if i = 1 then y else if i = 2 then z else false := by
  cases x <;> cases y <;> cases z <;> decide +kernel
theorem bb_dv_1 (x y z : Bool) : (nI (bb_dv x y z) &&& 1) = 0 ↔ x = false := by
  cases x <;> cases y <;> cases z <;> decide +kernel
theorem bb_dv_2 (x y z : Bool) : (nI (bb_dv x y z) &&& 2) = 0 ↔ y = false := by
  cases x <;> cases y <;> cases z <;> decide +kernel
theorem bb_dv_4 (x y z : Bool) : (nI (bb_dv x y z) &&& 4) = 0 ↔ z = false := by
  cases x <;> cases y <;> cases z <;> decide +kernel
theorem bb_dv_6 (x y z : Bool) : (nI (bb_dv x y z) &&& 6) = 0 ↔ (y || z) = false := by
  cases x <;> cases y <;> cases z <;> decide +kernel
theorem bb_dv_0 (x y z : Bool) : nI (bb_dv x y z) = 0 ↔ ¬ (x = true ∨ y = true ∨ z = true) := by
  cases x <;> cases y <;> cases z <;> decide +kernel
theorem bb_dv_e1 (x y z : Bool) : nI (bb_dv x y z) = 1 ↔ (x = true ∧ y = false ∧ z = false) := by
  cases x <;> cases y <;> cases z <;> decide +kernel
/-- at most one of three -/
def bb_am (x y z : Bool) : Bool := !(x && y) && !(x && z) && !(y && z)
theorem bb_dv_am (x y z : Bool) : (nI (bb_dv x y z) &&& (nI (bb_dv x y z) - 1)) = 0 ↔ bb_am x y z = true := by
  cases x <;> cases y <;> cases z <;> decide +kernel
theorem bb_b7 : ∀ k, k < 32 → bt 7 k = decide (k < 3) := by decide +kernel
theorem bb_3g (g : Nat) : (3 : Int32) * nI g = nI (3 * g) := pk_mul 3 g
theorem bb_dO (s : Int32) {g : Nat} (hg : g < 8) : ((s.toUInt32 >>> ((3 * nI g).toUInt32 &&& Int32.toUInt32 31)).toInt32) &&& 7 = nI (bb_dn s g) := by
  apply b_ext
  intro i hi
  rw [bb_3g, b_and, b_ushr (3 * g) (by omega), bb_b7 i hi]
  unfold bb_dn
  rw [bb_dv_bt _ _ _ i hi]
  by_cases h0 : i = 0
  · rw [h0, if_pos rfl]; exact Bool.and_true _
  · rw [if_neg h0]
    by_cases h1 : i = 1
    · rw [h1, if_pos rfl]; exact Bool.and_true _
    · rw [if_neg h1]
      by_cases h2 : i = 2
      · rw [h2, if_pos rfl]; exact Bool.and_true _
      · rw [if_neg h2, decide_eq_false (by omega)]; exact Bool.and_false _
theorem bb_wdom {post : Int32 → Prop} {s : Int32} {g : Nat} (hg : g < 8) (h : post (nI (bb_dn s g))) : wpX_domainOf post s (nI g) := by
  unfold wpX_domainOf
  rw [bb_dO s hg]
  exact h
theorem bb_wlow {post : Int32 → Prop} {s : Int32} {g : Nat} (h : post (nI (bb_lo s g))) : wpX_lowest post (nI (bb_dn s g)) := by
  unfold bb_lo at h
  refine ek_if (bb_dv_1 _ _ _) (fun hx => ek_if (bb_dv_2 _ _ _) (fun hy => ?_) (fun hy => ?_)) (fun hx => ?_)
  · rw [hx, hy] at h; exact h
  · rw [hx, bb_nf hy] at h; exact h
  · rw [bb_nf hx] at h; exact h
theorem bb_whigh {post : Int32 → Prop} {s : Int32} {g : Nat} (h : post (nI (bb_hi s g))) : wpX_highest post (nI (bb_dn s g)) := by
  unfold bb_hi at h
  refine ek_if (bb_dv_4 _ _ _) (fun hx => ek_if (bb_dv_2 _ _ _) (fun hy => ?_) (fun hy => ?_)) (fun hx => ?_)
  · rw [hx, hy] at h; exact h
  · rw [hx, bb_nf hy] at h; exact h
  · rw [bb_nf hx] at h; exact h
/-- the state with gap g's possibilities cut to the set -/
def bb_re (s : Int32) (g : Nat) (t : Int32) : Int32 :=
  (s &&& (((7 : Int32) <<< (nI (3 * g) &&& 31)) ^^^ (-1))) ||| (((((s.toUInt32 >>> ((nI (3 * g)).toUInt32 &&& Int32.toUInt32 31)).toInt32) &&& t) &&& 7) <<< (nI (3 * g) &&& 31))
theorem bb_re_bt (s : Int32) {g : Nat} (hg : g < 8) (t : Int32) (i : Nat) : bt (bb_re s g t) i = if 3 * g ≤ i ∧ i < 3 * g + 3 then (bt s i && bt t (i - 3 * g)) else bt s i := by
  rcases Nat.lt_or_ge i 32 with hi | hi
  · unfold bb_re
    rw [b_or, b_and, b_xor, b_shl (3 * g) (by omega) _ hi, b_shl (3 * g) (by omega) _ hi, b_m1 i hi, b_and, b_and, b_ushr (3 * g) (by omega), bb_b7 _ (by omega)]
    by_cases h1 : 3 * g ≤ i
    · rw [decide_eq_true h1, show 3 * g + (i - 3 * g) = i by omega]
      by_cases h2 : i - 3 * g < 3
      · rw [decide_eq_true h2, if_pos ⟨h1, by omega⟩]
        cases bt s i <;> cases bt t (i - 3 * g) <;> rfl
      · rw [decide_eq_false h2, if_neg (fun z => h2 (by omega))]
        cases bt s i <;> cases bt t (i - 3 * g) <;> rfl
    · rw [decide_eq_false h1, if_neg (fun z => h1 z.1)]
      cases bt s i <;> rfl
  · rw [b_big hi, b_big hi]
    rw [Bool.false_and]
    exact (ite_self false).symm
theorem bb_wres {post : Int32 → Prop} {s : Int32} {g : Nat} {t : Int32} (h : post (bb_re s g t)) : wpX_restrict post s (nI g) t := by
  unfold wpX_restrict
  rw [bb_3g]
  exact h
theorem bb_re_at (s : Int32) {g : Nat} (hg : g < 8) (t : Int32) {j : Nat} (hj : j < 3) : bt (bb_re s g t) (3 * g + j) = (bt s (3 * g + j) && bt t j) := by
  rw [bb_re_bt s hg, if_pos ⟨by omega, by omega⟩, show 3 * g + j - 3 * g = j by omega]
theorem bb_re_off (s : Int32) {g : Nat} (hg : g < 8) (t : Int32) {h j : Nat} (hj : j < 3) (e : h ≠ g) : bt (bb_re s g t) (3 * h + j) = bt s (3 * h + j) := by
  rw [bb_re_bt s hg, if_neg (by omega)]
theorem bb_re_Sb (s : Int32) {g : Nat} (hg : g < 8) (t : Int32) : bb_Sb (bb_re s g t) s := by
  intro i h
  rw [bb_re_bt s hg] at h
  by_cases z : 3 * g ≤ i ∧ i < 3 * g + 3
  · rw [if_pos z] at h; exact (Bool.and_eq_true _ _ |>.mp h).1
  · rw [if_neg z] at h; exact h
theorem bb_re_WF {G : Nat} {s : Int32} {g : Nat} {t : Int32} (hG : G ≤ 8) (hg : g < G) (w : bb_WF G s) (h : bb_ne (bb_re s g t) g) : bb_WF G (bb_re s g t) := by
  refine ⟨fun i hi => ?_, fun k hk => ?_⟩
  · cases z : bt (bb_re s g t) i
    · rfl
    · have := bb_re_Sb s (by omega) t i z
      rw [w.1 i hi] at this; cases this
  · by_cases e : k = g
    · rw [e]; exact h
    · have := w.2 k hk
      unfold bb_ne at this ⊢
      rw [bb_re_off s (by omega) t (j := 1) (by omega) e, bb_re_off s (by omega) t (j := 2) (by omega) e, show bt (bb_re s g t) (3 * k) = bt s (3 * k) from bb_re_off s (by omega) t (j := 0) (by omega) e]
      exact this
theorem bb_re_In {G : Nat} {s : Int32} {g : Nat} {t : Int32} (hG : G ≤ 8) (hg : g < G) {b : Nat → Nat} (h : bb_In G s b) (ht : bt t (b g) = true) : bb_In G (bb_re s g t) b := by
  intro k hk
  obtain ⟨h1, h2⟩ := h k hk
  refine ⟨h1, ?_⟩
  by_cases e : k = g
  · rw [e] at h1 h2 ⊢
    rw [bb_re_at s (by omega) t h1, h2, ht]; rfl
  · rw [bb_re_off s (by omega) t h1 e, h2]
theorem bb_In_ne {G : Nat} {s : Int32} {b : Nat → Nat} (h : bb_In G s b) {g : Nat} (hg : g < G) : bb_ne s g := by
  obtain ⟨h1, h2⟩ := h g hg
  unfold bb_ne
  generalize b g = k at *
  match k, h1 with
  | 0, _ => exact Or.inl h2
  | 1, _ => exact Or.inr (Or.inl h2)
  | 2, _ => exact Or.inr (Or.inr h2)
theorem bb_dn_0 (s : Int32) (g : Nat) : nI (bb_dn s g) = 0 ↔ ¬ bb_ne s g := bb_dv_0 _ _ _
/-- setFrom -/
def bb_sf (x0 x1 : Int32) (b : Nat) (t : Int32) : Int32 := if x0 ≤ nI b ∧ nI b ≤ x1 then t ||| ((1 : Int32) <<< (nI b &&& 31)) else t
theorem bb_sf_bt (x0 x1 : Int32) {b : Nat} (hb : b < 32) (t : Int32) (j : Nat) : bt (bb_sf x0 x1 b t) j = (bt t j || (decide (j = b) && decide (x0 ≤ nI b ∧ nI b ≤ x1))) := by
  unfold bb_sf
  by_cases h : x0 ≤ nI b ∧ nI b ≤ x1
  · rw [if_pos h, b_or, bb_one hb, decide_eq_true h, Bool.and_true]
  · rw [if_neg h, decide_eq_false h, Bool.and_false, Bool.or_false]
theorem bb_sf_step {post : Int32 → Prop} {x0 x1 t : Int32} {n b : Nat} (hb : b < 3) (K : wX_setFrom_4 post x0 x1 n (bb_sf x0 x1 b t) (nI (b + 1))) : wX_setFrom_4 post x0 x1 (n + 1) t (nI b) := by
  unfold bb_sf at K
  refine br_f (nI_ge (b := 3) hb (by omega)) (br_c (fun h => nm_r (nI_1 _) ?_) (fun h => br_c (fun h2 => nm_r (nI_1 _) ?_) (fun h2 => nm_e (nm_r (nI_1 _) ?_))))
  · rw [if_neg (fun z => Int32.not_le.mpr h z.1)] at K; exact K
  · rw [if_neg (fun z => Int32.not_le.mpr h2 z.2)] at K; exact K
  · rw [if_pos ⟨Int32.not_lt.mp h, Int32.not_lt.mp h2⟩] at K; exact K
theorem bb_wsf {post : Int32 → Prop} {x0 x1 : Int32} (K : ∀ r, (∀ j, j < 3 → (bt r j = true ↔ x0 ≤ nI j ∧ nI j ≤ x1)) → post r) : wpX_setFrom post x0 x1 := by
  refine ⟨4, bb_sf_step (b := 0) (by omega) (bb_sf_step (b := 1) (by omega) (bb_sf_step (b := 2) (by omega) (br_t (nI_le (a := 3) (b := 3) (by omega) (by omega)) (K _ ?_))))⟩
  intro j hj
  rw [bb_sf_bt _ _ (by omega), bb_sf_bt _ _ (by omega), bb_sf_bt _ _ (by omega), b_0]
  match j, hj with
  | 0, _ => simp
  | 1, _ => simp
  | 2, _ => simp
end
section
/-! X: touches, narrowIsland, narrowIslands, narrowCrossings -/
def bb_PZ (G I : Nat) (A B D : Nat → Nat) (C : Nat → Nat → Bool) (nu ce ne di cr : Nat → Int32) : Prop :=
  G ≤ 8 ∧ I ≤ 7 ∧ (∀ g, g < G → ne g = nI (A g) ∧ di g = nI (B g) ∧ A g < I ∧ B g < I) ∧
  (∀ i, i < I → ∃ c, c < 36 ∧ ce i = nI c ∧ nu c = nI (D i) ∧ D i ≤ 8) ∧ (∀ g h, g < G → h < G → bt (cr g) h = C g h)
def bb_Ck (G : Nat) (A B D : Nat → Nat) (s : Int32) (i : Nat) : Prop :=
  bb_sm (bb_to A B i) (bb_lo s) G ≤ D i ∧ D i ≤ bb_sm (bb_to A B i) (bb_hi s) G
theorem bb_abc {a b c : Nat} (ha : a < 1000) (hb : b < 1000) (hc : c < 1000) : (nI a - nI b + nI c).toInt = (a : Int) - b + c := by
  rw [Int32.toInt_add, pk_sub_toInt (by omega) (by omega), nI_toInt (by omega)]
  exact Int.bmod_eq_of_le (by omega) (by omega)
section
variable {fI fL fG fS fC fM : Int32} {nu ce ix ne di : Nat → Int32} {be : Nat → Int64} {cr cw dm cg nb : Nat → Int32} {G I : Nat} {A B D : Nat → Nat} {C : Nat → Nat → Bool} {Sol : (Nat → Nat) → Prop}
theorem bb_wto {post : Int32 → Prop} {g i : Nat} (pz : bb_PZ G I A B D C nu ce ne di cr) (hg : g < G) (hi : i < I)
    (K1 : bb_to A B i g = true → post 1) (K0 : bb_to A B i g = false → post 0) : wpX_touches post (fI, nI I, nI G, fS, fC, fM, nu, ce, ix, ne, di, be, cr, cw, dm, cg, nb) (nI g) (nI i) := by
  obtain ⟨hG, hI, hE, _, _⟩ := pz
  obtain ⟨e1, e2, h1, h2⟩ := hE g hg
  unfold wpX_touches
  refine And.intro (vp_in_nI (by omega) (by omega)) ?_
  rw [nI_clamp (show g < 2 ^ 31 by omega), e1, e2]
  refine pk_eq (A g) i (fun e => K1 (decide_eq_true (Or.inl e))) (fun e => ⟨vp_in_nI (by omega) (by omega), pk_eq (B g) i (fun e' => K1 (decide_eq_true (Or.inr e'))) (fun e' => K0 (decide_eq_false ?_))⟩)
  intro z
  rcases z with z | z
  · exact e z
  · exact e' z
theorem bb_ni8 {post : Int32 → Prop} {s : Int32} {i : Nat} (pz : bb_PZ G I A B D C nu ce ne di cr) (hi : i < I)
    (Kf : D i < bb_sm (bb_to A B i) (bb_lo s) G ∨ bb_sm (bb_to A B i) (bb_hi s) G < D i → post (-1))
    (K : bb_sm (bb_to A B i) (bb_lo s) G ≤ D i → D i ≤ bb_sm (bb_to A B i) (bb_hi s) G →
      ∃ n93, wX_narrowIsland_93 post s (nI i) (nI (bb_sm (bb_to A B i) (bb_lo s) G)) (nI (bb_sm (bb_to A B i) (bb_hi s) G)) (nI (D i)) fI (nI I) (nI G) fS fC fM nu ce ix ne di be cr cw dm cg nb n93 s 0) :
    ∀ d g n, g + d = G → d < n → wX_narrowIsland_8 post s (nI i) fI (nI I) (nI G) fS fC fM nu ce ix ne di be cr cw dm cg nb n (nI (bb_sm (bb_to A B i) (bb_lo s) g)) (nI (bb_sm (bb_to A B i) (bb_hi s) g)) (nI g) := by
  have hG := pz.1
  have hI := pz.2.1
  intro d
  induction d with
  | zero =>
    intro g n hd hn
    obtain ⟨n, rfl⟩ : ∃ k, n = k + 1 := ⟨n - 1, by omega⟩
    obtain rfl : g = G := by omega
    obtain ⟨c, hc, e1, e2, h8⟩ := pz.2.2.2.1 i hi
    have hb1 := bb_sm_2 (t := bb_to A B i) g (bb_lo2 s)
    have hb2 := bb_sm_2 (t := bb_to A B i) g (bb_hi2 s)
    refine br_t (nI_le (by omega) (by omega)) (And.intro (vp_in_nI (by omega) (by omega)) ?_)
    rw [nI_clamp (show i < 2 ^ 31 by omega), e1]
    refine And.intro (vp_in_nI hc (by omega)) ?_
    rw [nI_clamp (show c < 2 ^ 31 by omega)]
    exact nm_r e2 (pk_lt (D i) (bb_sm (bb_to A B i) (bb_lo s) g) (fun h => Kf (Or.inl h)) (fun h => pk_le (D i) (bb_sm (bb_to A B i) (bb_hi s) g) (fun h2 => K h h2) (fun h2 => Kf (Or.inr h2))))
  | succ d ih =>
    intro g n hd hn
    obtain ⟨n, rfl⟩ : ∃ k, n = k + 1 := ⟨n - 1, by omega⟩
    refine br_f (nI_ge (by omega) (by omega)) (bb_wto pz (by omega) hi (fun ht => br_f (by decide) (bb_wdom (by omega) (bb_wlow (nm_r (nI_add _ _) (bb_whigh (nm_r (nI_add _ _) (nm_r (nI_1 _) ?_))))))) (fun ht => br_t rfl (nm_r (nI_1 _) ?_)))
    · have h := ih (g + 1) n (by omega) (by omega)
      rw [bb_sm_t ht, bb_sm_t ht] at h
      exact h
    · have h := ih (g + 1) n (by omega) (by omega)
      rw [bb_sm_f ht, bb_sm_f ht] at h
      exact h
theorem bb_ni93 {post : Int32 → Prop} {s : Int32} {i : Nat} (pz : bb_PZ G I A B D C nu ce ne di cr) (hi : i < I)
    (hSol : ∀ b, Sol b → bb_sm (bb_to A B i) b G = D i)
    (Kf : (∀ b, Sol b → ¬ bb_In G s b) → post (-1))
    (K : ∀ r, bb_WF G r → bb_Sb r s → (∀ b, Sol b → bb_In G s b → bb_In G r b) → post r) :
    ∀ d g n r, g + d = G → d < n → bb_WF G r → bb_Sb r s → (∀ b, Sol b → bb_In G s b → bb_In G r b) →
    wX_narrowIsland_93 post s (nI i) (nI (bb_sm (bb_to A B i) (bb_lo s) G)) (nI (bb_sm (bb_to A B i) (bb_hi s) G)) (nI (D i)) fI (nI I) (nI G) fS fC fM nu ce ix ne di be cr cw dm cg nb n r (nI g) := by
  have hG := pz.1
  have hI := pz.2.1
  obtain ⟨c, hc, _, _, h8⟩ := pz.2.2.2.1 i hi
  have hb1 := bb_sm_2 (t := bb_to A B i) G (bb_lo2 s)
  have hb2 := bb_sm_2 (t := bb_to A B i) G (bb_hi2 s)
  intro d
  induction d with
  | zero =>
    intro g n r hd hn w hS hP
    obtain ⟨n, rfl⟩ : ∃ k, n = k + 1 := ⟨n - 1, by omega⟩
    obtain rfl : g = G := by omega
    exact br_t (nI_le (by omega) (by omega)) (K r w hS hP)
  | succ d ih =>
    intro g n r hd hn w hS hP
    obtain ⟨n, rfl⟩ : ∃ k, n = k + 1 := ⟨n - 1, by omega⟩
    have hg : g < G := by omega
    refine br_f (nI_ge (by omega) (by omega)) (bb_wto pz hg hi (fun ht => br_f (by decide) (bb_wdom (by omega) (bb_wlow (nm_e (bb_whigh (nm_e (bb_wsf (fun t hts => bb_wres (bb_wdom (by omega) ?_))))))))) (fun ht => br_t rfl (nm_r (nI_1 _) (ih (g + 1) n r (by omega) (by omega) w hS hP))))
    have hlo := bb_lo2 s g
    have hhi := bb_hi2 s g
    have hin : ∀ b, Sol b → bb_In G s b → bb_In G (bb_re r g t) b := by
      intro b hb hs
      refine bb_re_In hG hg (hP b hb hs) ((hts (b g) (hs g hg).1).mpr ?_)
      have hs3 := (hs g hg).1
      have hsum := hSol b hb
      have q1 := bb_sm_one (f := bb_lo s) (f' := b) ht G hg (fun k hk => (bb_In_lo hs hk).1)
      have q2 := bb_sm_one (f := b) (f' := bb_hi s) ht G hg (fun k hk => (bb_In_lo hs hk).2)
      rw [Int32.le_iff_toInt_le, Int32.le_iff_toInt_le, bb_abc (by omega) (by omega) (by omega), bb_abc (by omega) (by omega) (by omega), nI_toInt (by omega)]
      omega
    refine ek_if (bb_dn_0 _ _) (fun hz => Kf (fun b hb hs => hz (bb_In_ne (hin b hb hs) hg))) (fun hz => nm_r (nI_1 _) ?_)
    refine ih (g + 1) n _ (by omega) (by omega) (bb_re_WF hG hg w (Classical.byContradiction hz)) ?_ hin
    intro k hk
    exact hS k (bb_re_Sb r (by omega) t k hk)
theorem bb_wni {post : Int32 → Prop} {s : Int32} {i : Nat} (pz : bb_PZ G I A B D C nu ce ne di cr) (hi : i < I)
    (hSol : ∀ b, Sol b → bb_sm (bb_to A B i) b G = D i) (w : bb_WF G s)
    (K : ∀ r, bb_NS Sol G (bb_Ck G A B D s i) s r → post r) : wpX_narrowIsland post (fI, nI I, nI G, fS, fC, fM, nu, ce, ix, ne, di, be, cr, cw, dm, cg, nb) s (nI i) := by
  refine ⟨G + 1, bb_ni8 pz hi ?_ ?_ G 0 (G + 1) (by omega) (by omega)⟩
  · intro h
    refine K (-1) (Or.inl ⟨rfl, fun b hb hs => ?_⟩)
    have hsum := hSol b hb
    have q1 := bb_sm_le (t := bb_to A B i) (f := bb_lo s) (f' := b) G (fun k hk => (bb_In_lo hs hk).1)
    have q2 := bb_sm_le (t := bb_to A B i) (f := b) (f' := bb_hi s) G (fun k hk => (bb_In_lo hs hk).2)
    omega
  · intro h1 h2
    refine ⟨G + 1, bb_ni93 pz hi hSol ?_ ?_ G 0 (G + 1) s (by omega) (by omega) w (fun _ h => h) (fun _ _ h => h)⟩
    · intro hn
      exact K (-1) (Or.inl ⟨rfl, hn⟩)
    · intro r hw hS hP
      exact K r (Or.inr ⟨hw, hS, hP, fun _ => ⟨h1, h2⟩⟩)
theorem bb_nis4 {post : Int32 → Prop} {s : Int32} (pz : bb_PZ G I A B D C nu ce ne di cr)
    (hSol : ∀ b, Sol b → ∀ i, i < I → bb_sm (bb_to A B i) b G = D i)
    (K : ∀ r, bb_NS Sol G (∀ j, j < I → bb_Ck G A B D s j) s r → post r) :
    ∀ d i n r, i + d = I → d < n → bb_NS Sol G (∀ j, j < i → bb_Ck G A B D s j) s r → wX_narrowIslands_4 post fI (nI I) (nI G) fS fC fM nu ce ix ne di be cr cw dm cg nb n r (nI i) := by
  have hG := pz.1
  have hI := pz.2.1
  intro d
  induction d with
  | zero =>
    intro i n r hd hn h
    obtain ⟨n, rfl⟩ : ∃ k, n = k + 1 := ⟨n - 1, by omega⟩
    obtain rfl : i = I := by omega
    exact br_t (nI_le (by omega) (by omega)) (K r h)
  | succ d ih =>
    intro i n r hd hn h
    obtain ⟨n, rfl⟩ : ∃ k, n = k + 1 := ⟨n - 1, by omega⟩
    refine br_f (nI_ge (by omega) (by omega)) ?_
    rcases h with ⟨e, h⟩ | h
    · rw [e]
      exact br_t (by decide) (K (-1) (Or.inl ⟨rfl, h⟩))
    · refine br_f (bb_WF_nn hG h.1) (bb_wni pz (by omega) (fun b hb => hSol b hb i (by omega)) h.1 (fun t ht => nm_r (nI_1 _) (ih (i + 1) n t (by omega) (by omega) (bb_NS_comp h ht ?_))))
      intro e hP hQ j hj
      by_cases ej : j = i
      · rw [ej, ← e]; exact hQ
      · exact hP j (by omega)
theorem bb_wnis {post : Int32 → Prop} {s : Int32} (pz : bb_PZ G I A B D C nu ce ne di cr)
    (hSol : ∀ b, Sol b → ∀ i, i < I → bb_sm (bb_to A B i) b G = D i) (w : bb_WF G s)
    (K : ∀ r, bb_NS Sol G (∀ j, j < I → bb_Ck G A B D s j) s r → post r) : wpX_narrowIslands post (fI, nI I, nI G, fS, fC, fM, nu, ce, ix, ne, di, be, cr, cw, dm, cg, nb) s :=
  ⟨I + 1, bb_nis4 pz hSol K I 0 (I + 1) s (by omega) (by omega) (bb_NS_self w (fun j hj => absurd hj (Nat.not_lt_zero _)))⟩
/-! crossings -/
theorem bb_cbit {x : Int32} {h : Nat} (hh : h < 32) : (((x.toUInt32 >>> ((nI h).toUInt32 &&& Int32.toUInt32 31)).toInt32) &&& 1) = 0 ↔ bt x h = false := by
  constructor
  · intro e
    have h1 : bt (((x.toUInt32 >>> ((nI h).toUInt32 &&& Int32.toUInt32 31)).toInt32) &&& 1) 0 = false := by rw [e]; exact b_0 0
    rw [b_and, b_ushr h hh, bb_b1 0 (by omega), decide_eq_true rfl, Bool.and_true] at h1
    exact h1
  · intro e
    apply b_ext
    intro i hi
    rw [b_and, b_ushr h hh, bb_b1 i hi, b_0]
    by_cases z : i = 0
    · rw [z, Nat.add_zero, e]; rfl
    · rw [decide_eq_false z, Bool.and_false]
theorem bb_nc25 {post : Int32 → Prop} {J : Int32 → Int32 → Prop} {s : Int32} {g : Nat} (pz : bb_PZ G I A B D C nu ce ne di cr) (hg : g < G)
    (hSol : ∀ b, Sol b → ∀ g h, g < G → h < G → C g h = true → b g = 0 ∨ b h = 0) (hz : bt s (3 * g) = false)
    (Kf : (∀ b, Sol b → ¬ bb_In G s b) → post (-1))
    (K : ∀ r, bb_NS Sol G (∀ h, h < G → C g h = true → (bt s (3 * h + 1) || bt s (3 * h + 2)) = false) s r → bb_WF G r → J r (nI (g + 1))) :
    ∀ d h n r, h + d = G → d < n → bb_WF G r ∧ bb_Sb r s ∧ (∀ b, Sol b → bb_In G s b → bb_In G r b) ∧ (r = s → ∀ k, k < h → C g k = true → (bt s (3 * k + 1) || bt s (3 * k + 2)) = false) →
    wX_narrowCrossings_25 post J (nI g) fI (nI I) (nI G) fS fC fM nu ce ix ne di be cr cw dm cg nb n r (nI h) := by
  have hG := pz.1
  have hI := pz.2.1
  intro d
  induction d with
  | zero =>
    intro h n r hd hn q
    obtain ⟨n, rfl⟩ : ∃ k, n = k + 1 := ⟨n - 1, by omega⟩
    obtain rfl : h = G := by omega
    exact br_t (nI_le (by omega) (by omega)) (nm_r (nI_1 _) (K r (Or.inr q) q.1))
  | succ d ih =>
    intro h n r hd hn q
    obtain ⟨n, rfl⟩ : ∃ k, n = k + 1 := ⟨n - 1, by omega⟩
    have hh : h < G := by omega
    refine br_f (nI_ge (by omega) (by omega)) (And.intro (vp_in_nI (by omega) (by omega)) ?_)
    rw [nI_clamp (show g < 2 ^ 31 by omega)]
    refine ek_if (bb_cbit (by omega)) (fun hc => nm_r (nI_1 _) ?_) (fun hc => bb_wres (bb_wdom (by omega) ?_))
    · refine ih (h + 1) n r (by omega) (by omega) ⟨q.1, q.2.1, q.2.2.1, fun e k hk hC => ?_⟩
      by_cases ek : k = h
      · rw [ek, ← pz.2.2.2.2 g h hg hh, hc] at hC; cases hC
      · exact q.2.2.2 e k (by omega) hC
    · have hC : C g h = true := by
        rw [← pz.2.2.2.2 g h hg hh]; exact bb_nf hc
      have hin : ∀ b, Sol b → bb_In G s b → bb_In G (bb_re r h 1) b := by
        intro b hb hs
        refine bb_re_In hG hh (q.2.2.1 b hb hs) ?_
        have h0 : b h = 0 := by
          rcases hSol b hb g h hg hh hC with z | z
          · have := (hs g hg).2
            rw [z, Nat.add_zero, hz] at this; cases this
          · exact z
        rw [h0]; decide
      refine ek_if (bb_dn_0 _ _) (fun hz => Kf (fun b hb hs => hz (bb_In_ne (hin b hb hs) hh))) (fun hz => nm_r (nI_1 _) ?_)
      have hS : bb_Sb (bb_re r h 1) r := bb_re_Sb r (by omega) 1
      refine ih (h + 1) n _ (by omega) (by omega) ⟨bb_re_WF hG hh q.1 (Classical.byContradiction hz), fun k hk => q.2.1 k (hS k hk), hin, fun e k hk hCk => ?_⟩
      have er : r = s := bb_Sb_eq q.2.1 (by rw [← e]; exact hS)
      by_cases ek : k = h
      · rw [ek, ← e, bb_re_at r (by omega) 1 (j := 1) (by omega), bb_re_at r (by omega) 1 (j := 2) (by omega), show bt 1 1 = false by decide, show bt 1 2 = false by decide, Bool.and_false, Bool.and_false]; rfl
      · exact q.2.2.2 er k (by omega) hCk
theorem bb_nc4 {post : Int32 → Prop} {s : Int32} (pz : bb_PZ G I A B D C nu ce ne di cr)
    (hSol : ∀ b, Sol b → ∀ g h, g < G → h < G → C g h = true → b g = 0 ∨ b h = 0)
    (K : ∀ r, bb_NS Sol G (∀ g, g < G → bt s (3 * g) = false → ∀ h, h < G → C g h = true → (bt s (3 * h + 1) || bt s (3 * h + 2)) = false) s r → post r) :
    ∀ d g n r, g + d = G → d < n → bb_WF G r ∧ bb_Sb r s ∧ (∀ b, Sol b → bb_In G s b → bb_In G r b) ∧ (r = s → ∀ k, k < g → bt s (3 * k) = false → ∀ h, h < G → C k h = true → (bt s (3 * h + 1) || bt s (3 * h + 2)) = false) →
    wX_narrowCrossings_4 post fI (nI I) (nI G) fS fC fM nu ce ix ne di be cr cw dm cg nb n r (nI g) := by
  have hG := pz.1
  have hI := pz.2.1
  intro d
  induction d with
  | zero =>
    intro g n r hd hn q
    obtain ⟨n, rfl⟩ : ∃ k, n = k + 1 := ⟨n - 1, by omega⟩
    obtain rfl : g = G := by omega
    exact br_t (nI_le (by omega) (by omega)) (K r (Or.inr q))
  | succ d ih =>
    intro g n r hd hn q
    obtain ⟨n, rfl⟩ : ∃ k, n = k + 1 := ⟨n - 1, by omega⟩
    have hg : g < G := by omega
    refine br_f (nI_ge (by omega) (by omega)) (bb_wdom (by omega) (ek_if (bb_dv_1 _ _ _) (fun hz => ⟨G + 1, ?_⟩) (fun hz => nm_r (nI_1 _) ?_)))
    · refine bb_nc25 pz hg hSol hz ?_ ?_ G 0 (G + 1) r (by omega) (by omega) ⟨q.1, fun _ h => h, fun _ _ h => h, fun _ k hk => absurd hk (Nat.not_lt_zero _)⟩
      · intro hn
        exact K (-1) (Or.inl ⟨rfl, fun b hb hs => hn b hb (q.2.2.1 b hb hs)⟩)
      · intro t ht wt
        refine ih (g + 1) n t (by omega) (by omega) ?_
        have hc := bb_NS_comp (PQ := ∀ k, k < g + 1 → bt s (3 * k) = false → ∀ h, h < G → C k h = true → (bt s (3 * h + 1) || bt s (3 * h + 2)) = false) q ht (by
          intro e hP hQ k hk hzk h hh hC
          by_cases ek : k = g
          · rw [ek] at hC; rw [← e]; exact hQ h hh hC
          · exact hP k (by omega) hzk h hh hC)
        rcases hc with ⟨e, _⟩ | hc
        · exact absurd (show t < 0 by rw [e]; decide) (bb_WF_nn hG wt)
        · exact hc
    · refine ih (g + 1) n r (by omega) (by omega) ⟨q.1, q.2.1, q.2.2.1, fun e k hk hzk h hh hC => ?_⟩
      by_cases ek : k = g
      · rw [ek, ← e] at hzk; exact absurd hzk hz
      · exact q.2.2.2 e k (by omega) hzk h hh hC
theorem bb_wnc {post : Int32 → Prop} {s : Int32} (pz : bb_PZ G I A B D C nu ce ne di cr)
    (hSol : ∀ b, Sol b → ∀ g h, g < G → h < G → C g h = true → b g = 0 ∨ b h = 0) (w : bb_WF G s)
    (K : ∀ r, bb_NS Sol G (∀ g, g < G → bt s (3 * g) = false → ∀ h, h < G → C g h = true → (bt s (3 * h + 1) || bt s (3 * h + 2)) = false) s r → post r) :
    wpX_narrowCrossings post (fI, nI I, nI G, fS, fC, fM, nu, ce, ix, ne, di, be, cr, cw, dm, cg, nb) s :=
  ⟨G + 1, bb_nc4 pz hSol K G 0 (G + 1) s (by omega) (by omega) ⟨w, fun _ h => h, fun _ _ h => h, fun _ k hk => absurd hk (Nat.not_lt_zero _)⟩⟩
end
end
section
/-! X: hangTogether, narrowCuts, narrow -/
def bb_us (s w : Int32) (g : Nat) : Bool := !decide (nI g = w) && (bt s (3 * g + 1) || bt s (3 * g + 2))
theorem bb_all : ∀ I, I < 8 → ∀ i, i < 32 → bt (((1 : Int32) <<< (nI I &&& 31)) - 1) i = decide (i < I) := by decide +kernel
theorem bb_rs_no {A B : Nat → Nat} {u R : Nat → Bool} {g : Nat} (h : (u g && (R (A g) || R (B g))) = false) (i : Nat) : bb_rs A B u R g i = R i := by
  unfold bb_rs
  rw [h, Bool.false_and, Bool.or_false]
theorem bb_rs_yes {A B : Nat → Nat} {u R : Nat → Bool} {g : Nat} (h : (u g && (R (A g) || R (B g))) = true) (i : Nat) : bb_rs A B u R g i = (R i || (decide (i = A g) || decide (i = B g))) := by
  unfold bb_rs
  rw [h, Bool.true_and]
theorem bb_ends {x : Int32} {a b : Nat} (ha : a < 32) (hb : b < 32) : (x &&& (((1 : Int32) <<< (nI a &&& 31)) ||| ((1 : Int32) <<< (nI b &&& 31)))) = 0 ↔ (bt x a || bt x b) = false := by
  constructor
  · intro e
    have h1 : bt (x &&& (((1 : Int32) <<< (nI a &&& 31)) ||| ((1 : Int32) <<< (nI b &&& 31)))) a = false := by rw [e]; exact b_0 a
    have h2 : bt (x &&& (((1 : Int32) <<< (nI a &&& 31)) ||| ((1 : Int32) <<< (nI b &&& 31)))) b = false := by rw [e]; exact b_0 b
    rw [b_and, b_or, bb_one ha, bb_one hb, decide_eq_true (show a = a from rfl), Bool.true_or, Bool.and_true] at h1
    rw [b_and, b_or, bb_one ha, bb_one hb, decide_eq_true (show b = b from rfl), Bool.or_true, Bool.and_true] at h2
    rw [h1, h2]; rfl
  · intro e
    apply b_ext
    intro i _
    rw [b_and, b_or, bb_one ha, bb_one hb, b_0]
    by_cases z1 : i = a
    · rw [z1]
      revert e
      cases bt x a <;> cases bt x b <;> simp
    · rw [decide_eq_false z1]
      by_cases z2 : i = b
      · rw [z2]
        revert e
        cases bt x a <;> cases bt x b <;> simp
      · rw [decide_eq_false z2]; exact Bool.and_false _
section
variable {fI fL fG fS fC fM : Int32} {nu ce ix ne di : Nat → Int32} {be : Nat → Int64} {cr cw dm cg nb : Nat → Int32} {G I : Nat} {A B D : Nat → Nat} {C : Nat → Nat → Bool} {Sol : (Nat → Nat) → Prop}
theorem bb_ht15 {post : Int32 → Prop} {J : Int32 → Int32 → Prop} {s w : Int32} {k : Nat} {R : Nat → Bool} (pz : bb_PZ G I A B D C nu ce ne di cr)
    (K : ∀ x, (∀ i, bt x i = bb_rw A B (bb_us s w) R G i) → J x (nI (k + 1))) :
    ∀ d g n x, g + d = G → d < n → (∀ i, bt x i = bb_rw A B (bb_us s w) R g i) → wX_hangTogether_15 post J s w (nI k) fI (nI I) (nI G) fS fC fM nu ce ix ne di be cr cw dm cg nb n x (nI g) := by
  have hG := pz.1
  have hI := pz.2.1
  intro d
  induction d with
  | zero =>
    intro g n x hd hn hx
    obtain ⟨n, rfl⟩ : ∃ k, n = k + 1 := ⟨n - 1, by omega⟩
    obtain rfl : g = G := by omega
    exact br_t (nI_le (by omega) (by omega)) (nm_r (nI_1 _) (K x hx))
  | succ d ih =>
    intro g n x hd hn hx
    obtain ⟨n, rfl⟩ : ∃ k, n = k + 1 := ⟨n - 1, by omega⟩
    obtain ⟨e1, e2, h1, h2⟩ := pz.2.2.1 g (by omega)
    have skip : (bb_us s w g && (bb_rw A B (bb_us s w) R g (A g) || bb_rw A B (bb_us s w) R g (B g))) = false → wX_hangTogether_15 post J s w (nI k) fI (nI I) (nI G) fS fC fM nu ce ix ne di be cr cw dm cg nb n x (nI (g + 1)) := by
      intro h
      refine ih (g + 1) n x (by omega) (by omega) (fun i => ?_)
      rw [hx i]
      exact (bb_rs_no h i).symm
    refine br_f (nI_ge (by omega) (by omega)) (br_c (fun e => nm_r (nI_1 _) (skip ?_)) (fun e => bb_wdom (by omega) (ek_if (bb_dv_6 _ _ _) (fun h6 => nm_r (nI_1 _) (skip ?_)) (fun h6 => And.intro (vp_in_nI (by omega) (by omega)) (And.intro (vp_in_nI (by omega) (by omega)) ?_)))))
    · unfold bb_us
      rw [decide_eq_true e]; rfl
    · unfold bb_us
      rw [h6, Bool.and_false]; rfl
    · rw [nI_clamp (show g < 2 ^ 31 by omega), e1, e2]
      have hu : bb_us s w g = true := by
        unfold bb_us
        rw [decide_eq_false e, bb_nf h6]; rfl
      refine nm_e (ek_if (bb_ends (by omega) (by omega)) (fun hz => nm_r (nI_1 _) (skip ?_)) (fun hz => nm_e (nm_r (nI_1 _) (ih (g + 1) n _ (by omega) (by omega) (fun i => ?_)))))
      · rw [← hx, ← hx, hz, Bool.and_false]
      · have hy : (bb_us s w g && (bb_rw A B (bb_us s w) R g (A g) || bb_rw A B (bb_us s w) R g (B g))) = true := by
          rw [← hx, ← hx, hu, bb_nf hz]; rfl
        rw [b_or, b_or, bb_one (by omega), bb_one (by omega), hx i]
        exact (bb_rs_yes hy i).symm
theorem bb_ht5 {post : Int32 → Prop} {s w : Int32} (pz : bb_PZ G I A B D C nu ce ne di cr)
    (K1 : bb_Cn G I A B (bb_us s w) → post 1) (K0 : ¬ bb_Cn G I A B (bb_us s w) → post 0) :
    ∀ d k n x, k + d = 7 → d < n → (∀ i, bt x i = bb_rr A B (bb_us s w) G k i) → wX_hangTogether_5 post s w fI (nI I) (nI G) fS fC fM nu ce ix ne di be cr cw dm cg nb n x (nI k) := by
  have hG := pz.1
  have hI := pz.2.1
  intro d
  induction d with
  | zero =>
    intro k n x hd hn hx
    obtain ⟨n, rfl⟩ : ∃ k, n = k + 1 := ⟨n - 1, by omega⟩
    obtain rfl : k = 7 := by omega
    refine br_t (nI_le (a := 7) (b := 7) (by omega) (by omega)) (pk_eq I 0 (fun e => K1 ?_) (fun e => br_c (fun z => K1 ?_) (fun z => K0 (fun hc => z ?_))))
    · intro i hi
      omega
    · intro i hi
      rw [← hx i, z, bb_all I (by omega) i (by omega), decide_eq_true hi]
    · apply b_ext
      intro i hi
      rw [bb_all I (by omega) i hi, hx i]
      by_cases h : i < I
      · rw [decide_eq_true h]; exact hc i h
      · rw [decide_eq_false h]
        cases z : bb_rr A B (bb_us s w) G 7 i
        · rfl
        · exact absurd (bb_rr_in (by omega) (fun g hg => (pz.2.2.1 g hg).2.2) 7 i z) h
  | succ d ih =>
    intro k n x hd hn hx
    obtain ⟨n, rfl⟩ : ∃ k, n = k + 1 := ⟨n - 1, by omega⟩
    refine br_f (nI_ge (b := 7) (by omega) (by omega)) ⟨G + 1, bb_ht15 pz ?_ G 0 (G + 1) x (by omega) (by omega) hx⟩
    intro y hy
    exact ih (k + 1) n y (by omega) (by omega) hy
theorem bb_wht {post : Int32 → Prop} {s w : Int32} (pz : bb_PZ G I A B D C nu ce ne di cr)
    (K1 : bb_Cn G I A B (bb_us s w) → post 1) (K0 : ¬ bb_Cn G I A B (bb_us s w) → post 0) : wpX_hangTogether post (fI, nI I, nI G, fS, fC, fM, nu, ce, ix, ne, di, be, cr, cw, dm, cg, nb) s w := by
  refine ⟨8, bb_ht5 pz K1 K0 7 0 8 1 (by omega) (by omega) (fun i => ?_)⟩
  show bt 1 i = decide (i = 0)
  rcases Nat.lt_or_ge i 32 with h | h
  · exact bb_b1 i h
  · rw [b_big h, decide_eq_false (by omega)]
theorem bb_In_use {s : Int32} {b : Nat → Nat} (h : bb_In G s b) {g : Nat} (hg : g < G) (hb : decide (b g ≠ 0) = true) : (bt s (3 * g + 1) || bt s (3 * g + 2)) = true := by
  obtain ⟨h1, h2⟩ := h g hg
  have hb := of_decide_eq_true hb
  generalize b g = k at *
  match k, h1 with
  | 0, _ => exact absurd rfl hb
  | 1, _ => rw [h2]; rfl
  | 2, _ => rw [h2, Bool.or_true]
theorem bb_m1nI {g : Nat} (hg : g < 8) : decide (nI g = -1) = false := (by decide +kernel : ∀ g, g < 8 → decide (nI g = -1) = false) g hg
theorem bb_ncu15 {post : Int32 → Prop} {s : Int32} (pz : bb_PZ G I A B D C nu ce ne di cr)
    (hSol : ∀ b, Sol b → bb_Cn G I A B (fun g => decide (b g ≠ 0))) {P : Prop}
    (K : ∀ r, bb_NS Sol G P s r → post r) :
    ∀ d g n r, g + d = G → d < n → bb_WF G r ∧ bb_Sb r s ∧ (∀ b, Sol b → bb_In G s b → bb_In G r b) ∧ (r = s → P) →
    wX_narrowCuts_15 post fI (nI I) (nI G) fS fC fM nu ce ix ne di be cr cw dm cg nb n r (nI g) := by
  have hG := pz.1
  have hI := pz.2.1
  intro d
  induction d with
  | zero =>
    intro g n r hd hn q
    obtain ⟨n, rfl⟩ : ∃ k, n = k + 1 := ⟨n - 1, by omega⟩
    obtain rfl : g = G := by omega
    exact br_t (nI_le (by omega) (by omega)) (K r (Or.inr q))
  | succ d ih =>
    intro g n r hd hn q
    obtain ⟨n, rfl⟩ : ∃ k, n = k + 1 := ⟨n - 1, by omega⟩
    have hg : g < G := by omega
    have skip := ih (g + 1) n r (by omega) (by omega) q
    refine br_f (nI_ge (by omega) (by omega)) (bb_wdom (by omega) (ek_if (bb_dv_1 _ _ _) (fun h0 => nm_r (nI_1 _) skip) (fun h0 => ek_if (bb_dv_e1 _ _ _) (fun h1 => nm_r (nI_1 _) skip) (fun h1 => bb_wht pz (fun hc => br_f (by decide) (nm_r (nI_1 _) skip)) (fun hc => br_t rfl (bb_wres (nm_r (nI_1 _) ?_)))))))
    have h0 := bb_nf h0
    have h12 : bt r (3 * g + 1) = true ∨ bt r (3 * g + 2) = true := by
      cases z1 : bt r (3 * g + 1)
      · cases z2 : bt r (3 * g + 2)
        · exact absurd ⟨h0, z1, z2⟩ h1
        · exact Or.inr rfl
      · exact Or.inl rfl
    have hne : bb_ne (bb_re r g 6) g := by
      unfold bb_ne
      rw [bb_re_at r (by omega) 6 (j := 1) (by omega), bb_re_at r (by omega) 6 (j := 2) (by omega), show bt 6 1 = true by decide, show bt 6 2 = true by decide, Bool.and_true, Bool.and_true]
      exact Or.inr h12
    have hin : ∀ b, Sol b → bb_In G r b → bb_In G (bb_re r g 6) b := by
      intro b hb hs
      refine bb_re_In hG hg hs ?_
      have hbg : b g ≠ 0 := by
        intro z
        apply hc
        refine bb_Cn_mono ?_ (hSol b hb)
        intro k hk hu
        unfold bb_us
        rw [bb_In_use hs hk hu, Bool.and_true]
        have : k ≠ g := by
          intro e
          rw [e] at hu
          exact of_decide_eq_true hu z
        rw [decide_eq_false (fun e => this ((nI_eq (by omega) (by omega)).mp e))]; rfl
      have h3 := (hs g hg).1
      generalize b g = k at *
      match k, h3 with
      | 0, _ => exact absurd rfl hbg
      | 1, _ => decide
      | 2, _ => decide
    have hS : bb_Sb (bb_re r g 6) r := bb_re_Sb r (by omega) 6
    refine ih (g + 1) n _ (by omega) (by omega) ⟨bb_re_WF hG hg q.1 hne, fun k hk => q.2.1 k (hS k hk), fun b hb hs => hin b hb (q.2.2.1 b hb hs), fun e => q.2.2.2 ?_⟩
    exact bb_Sb_eq q.2.1 (by rw [← e]; exact hS)
theorem bb_wncu {post : Int32 → Prop} {s : Int32} (pz : bb_PZ G I A B D C nu ce ne di cr)
    (hSol : ∀ b, Sol b → bb_Cn G I A B (fun g => decide (b g ≠ 0))) (w : bb_WF G s)
    (K : ∀ r, bb_NS Sol G (bb_Cn G I A B (fun g => bt s (3 * g + 1) || bt s (3 * g + 2))) s r → post r) : wpX_narrowCuts post (fI, nI I, nI G, fS, fC, fM, nu, ce, ix, ne, di, be, cr, cw, dm, cg, nb) s := by
  have hG := pz.1
  unfold wpX_narrowCuts
  refine bb_wht pz (fun hc => br_f (by decide) ⟨G + 1, ?_⟩) (fun hc => br_t rfl (K (-1) (Or.inl ⟨rfl, fun b hb hs => hc ?_⟩)))
  · refine bb_ncu15 pz hSol K G 0 (G + 1) s (by omega) (by omega) ⟨w, fun _ h => h, fun _ _ h => h, fun _ => ?_⟩
    refine bb_Cn_mono ?_ hc
    intro g hg hu
    unfold bb_us at hu
    exact (Bool.and_eq_true _ _ |>.mp hu).2
  · refine bb_Cn_mono ?_ (hSol b hb)
    intro g hg hu
    unfold bb_us
    rw [bb_m1nI (by omega), bb_In_use hs hg hu]; rfl
/-! narrow -/
def bb_Chk (G I : Nat) (A B D : Nat → Nat) (C : Nat → Nat → Bool) (s : Int32) : Prop :=
  (∀ j, j < I → bb_Ck G A B D s j) ∧
  (∀ g, g < G → bt s (3 * g) = false → ∀ h, h < G → C g h = true → (bt s (3 * h + 1) || bt s (3 * h + 2)) = false) ∧
  bb_Cn G I A B (fun g => bt s (3 * g + 1) || bt s (3 * g + 2))
theorem bb_rk_sub {p q : Nat → Bool} : ∀ n, (∀ i, i < n → p i = true → q i = true) → bb_rk p n ≤ bb_rk q n := by
  intro n
  induction n with
  | zero => intro _; exact Nat.le_refl _
  | succ n ih =>
    intro h
    have h1 := ih (fun i hi => h i (by omega))
    have h2 := h n (by omega)
    cases hp : p n with
    | false =>
      rw [bb_rk_f hp]
      exact Nat.le_trans h1 (bb_rk_mono q (by omega))
    | true => rw [bb_rk_t hp, bb_rk_t (h2 hp)]; omega
theorem bb_rk_sublt {p q : Nat → Bool} {k : Nat} (hq : q k = true) (hp : p k = false) : ∀ n, k < n → (∀ i, i < n → p i = true → q i = true) → bb_rk p n < bb_rk q n := by
  intro n
  induction n with
  | zero => intro h; exact absurd h (Nat.not_lt_zero _)
  | succ n ih =>
    intro hk h
    by_cases e : k = n
    · have h1 := bb_rk_sub n (fun i hi => h i (by omega))
      rw [← e] at h1 ⊢
      rw [bb_rk_f hp, bb_rk_t hq]; omega
    · have h1 := ih (by omega) (fun i hi => h i (by omega))
      have h2 := h n (by omega)
      cases hpn : p n with
      | false =>
        rw [bb_rk_f hpn]
        exact Nat.lt_of_lt_of_le h1 (bb_rk_mono q (by omega))
      | true => rw [bb_rk_t hpn, bb_rk_t (h2 hpn)]; omega
theorem bb_rk_le (p : Nat → Bool) : ∀ n, bb_rk p n ≤ n := by
  intro n
  induction n with
  | zero => exact Nat.le_refl _
  | succ n ih =>
    cases hp : p n with
    | false => rw [bb_rk_f hp]; omega
    | true => rw [bb_rk_t hp]; omega
theorem bb_card {r s : Int32} (hG : G ≤ 8) (w : bb_WF G s) (hS : bb_Sb r s) (hn : ¬ r = s) : bb_rk (bt r) 24 < bb_rk (bt s) 24 := by
  apply Classical.byContradiction
  intro hc
  apply hn
  refine bb_Sb_eq hS (fun i hi => ?_)
  cases z : bt r i with
  | true => rfl
  | false =>
    have h24 : i < 24 := by
      apply Classical.byContradiction
      intro h
      rw [w.1 i (by omega)] at hi; cases hi
    exact absurd (bb_rk_sublt hi z 24 h24 (fun j _ h => hS j h)) hc
def bb_NF (Sol : (Nat → Nat) → Prop) (G I : Nat) (A B D : Nat → Nat) (C : Nat → Nat → Bool) (s r : Int32) : Prop :=
  (r = -1 ∧ ∀ b, Sol b → ¬ bb_In G s b) ∨ (bb_WF G r ∧ bb_Sb r s ∧ (∀ b, Sol b → bb_In G s b → bb_In G r b) ∧ bb_Chk G I A B D C r)
theorem bb_nr59 {post : Int32 → Prop} {J : Int32 → Int32 → Int32 → Prop} {s r : Int32} {k : Nat} {P : Prop} (hG : G ≤ 8)
    (Kf : (∀ b, Sol b → ¬ bb_In G s b) → post (-1))
    (K0 : P → J s 0 (nI (k + 1)))
    (K1 : bb_WF G r → bb_Sb r s → (∀ b, Sol b → bb_In G s b → bb_In G r b) → ¬ r = s → J r 1 (nI (k + 1)))
    (h : bb_NS Sol G P s r) : wX_narrow_59 post J s (nI k) r fI (nI I) (nI G) fS fC fM nu ce ix ne di be cr cw dm cg nb := by
  rcases h with ⟨e, h⟩ | ⟨w, hS, hP, hC⟩
  · rw [e]
    exact br_f (by decide) (Kf h)
  · refine br_t (bb_WF_0 hG w) (br_c (fun e => nm_r (nI_1 _) ?_) (fun e => nm_r (nI_1 _) (K1 w hS hP e)))
    rw [e]; exact K0 (hC e)
theorem bb_round {post : Int32 → Prop} {J : Int32 → Int32 → Int32 → Prop} {s : Int32} {k : Nat} (pz : bb_PZ G I A B D C nu ce ne di cr)
    (hSol : ∀ b, Sol b → bb_Sol G I A B D C b) (w : bb_WF G s)
    (K : ∀ r, bb_NS Sol G (bb_Chk G I A B D C s) s r → wX_narrow_59 post J s (nI k) r fI (nI I) (nI G) fS fC fM nu ce ix ne di be cr cw dm cg nb) :
    wpX_narrowIslands (fun r_3 => (((0 ≤ r_3 → (wpX_narrowCrossings (fun r_22 => (wX_narrow_41 post J s (nI k) r_22 fI (nI I) (nI G) fS fC fM nu ce ix ne di be cr cw dm cg nb)) (fI, nI I, nI G, fS, fC, fM, nu, ce, ix, ne, di, be, cr, cw, dm, cg, nb) r_3)) ∧ (¬ 0 ≤ r_3 → (wX_narrow_41 post J s (nI k) r_3 fI (nI I) (nI G) fS fC fM nu ce ix ne di be cr cw dm cg nb))))) (fI, nI I, nI G, fS, fC, fM, nu, ce, ix, ne, di, be, cr, cw, dm, cg, nb) s := by
  have hG := pz.1
  have neg : (∀ b, Sol b → ¬ bb_In G s b) → wX_narrow_41 post J s (nI k) (-1) fI (nI I) (nI G) fS fC fM nu ce ix ne di be cr cw dm cg nb := by
    intro h
    exact br_f (by decide) (K (-1) (Or.inl ⟨rfl, h⟩))
  refine bb_wnis pz (fun b hb => (hSol b hb).1) w (fun r hr => ?_)
  rcases hr with ⟨e, h⟩ | hr
  · rw [e]
    exact br_f (by decide) (neg h)
  · refine br_t (bb_WF_0 hG hr.1) (bb_wnc pz (fun b hb => (hSol b hb).2.1) hr.1 (fun t ht => ?_))
    have hc := bb_NS_comp (PQ := (∀ j, j < I → bb_Ck G A B D s j) ∧ (∀ g, g < G → bt s (3 * g) = false → ∀ h, h < G → C g h = true → (bt s (3 * h + 1) || bt s (3 * h + 2)) = false)) hr ht (by
      intro e hP hQ
      rw [e] at hQ
      exact ⟨hP, hQ⟩)
    rcases hc with ⟨e, h⟩ | hc
    · rw [e]; exact neg h
    · refine br_t (bb_WF_0 hG hc.1) (bb_wncu pz (fun b hb => (hSol b hb).2.2) hc.1 (fun v hv => K v (bb_NS_comp hc hv ?_)))
      intro e hP hQ
      rw [e] at hQ
      exact ⟨hP.1, hP.2, hQ⟩
theorem bb_nr7 {post : Int32 → Prop} {s0 : Int32} (pz : bb_PZ G I A B D C nu ce ne di cr)
    (hSol : ∀ b, Sol b → bb_Sol G I A B D C b)
    (K : ∀ r, bb_NF Sol G I A B D C s0 r → post r) :
    ∀ m k n s, bb_rk (bt s) 24 ≤ m → m + k ≤ 24 → m + 2 ≤ n → bb_WF G s → bb_Sb s s0 → (∀ b, Sol b → bb_In G s0 b → bb_In G s b) →
    wX_narrow_7 post fI (nI I) (nI G) fS fC fM nu ce ix ne di be cr cw dm cg nb n s 1 (nI k) := by
  have hG := pz.1
  intro m
  induction m with
  | zero =>
    intro k n s hm hk hn w hS hP
    obtain ⟨n, rfl⟩ : ∃ k, n = k + 1 := ⟨n - 1, by omega⟩
    refine br_f (nI_ge (b := 30) (by omega) (by omega)) (br_f (by decide) (bb_round pz hSol w (fun r hr => bb_nr59 hG ?_ ?_ ?_ hr)))
    · intro h
      exact K (-1) (Or.inl ⟨rfl, fun b hb hs => h b hb (hP b hb hs)⟩)
    · intro hC
      obtain ⟨n, rfl⟩ : ∃ k, n = k + 1 := ⟨n - 1, by omega⟩
      exact br_f (nI_ge (b := 30) (by omega) (by omega)) (br_t rfl (K s (Or.inr ⟨w, hS, hP, hC⟩)))
    · intro wr hSr hPr hne
      have := bb_card hG w hSr hne
      omega
  | succ m ih =>
    intro k n s hm hk hn w hS hP
    obtain ⟨n, rfl⟩ : ∃ k, n = k + 1 := ⟨n - 1, by omega⟩
    refine br_f (nI_ge (b := 30) (by omega) (by omega)) (br_f (by decide) (bb_round pz hSol w (fun r hr => bb_nr59 hG ?_ ?_ ?_ hr)))
    · intro h
      exact K (-1) (Or.inl ⟨rfl, fun b hb hs => h b hb (hP b hb hs)⟩)
    · intro hC
      obtain ⟨n, rfl⟩ : ∃ k, n = k + 1 := ⟨n - 1, by omega⟩
      exact br_f (nI_ge (b := 30) (by omega) (by omega)) (br_t rfl (K s (Or.inr ⟨w, hS, hP, hC⟩)))
    · intro wr hSr hPr hne
      have := bb_card hG w hSr hne
      exact ih (k + 1) n r (by omega) (by omega) (by omega) wr (fun i hi => hS i (hSr i hi)) (fun b hb hs => hPr b hb (hP b hb hs))
theorem bb_wnr {post : Int32 → Prop} {s : Int32} (pz : bb_PZ G I A B D C nu ce ne di cr)
    (hSol : ∀ b, Sol b → bb_Sol G I A B D C b) (w : bb_WF G s)
    (K : ∀ r, bb_NF Sol G I A B D C s r → post r) : wpX_narrow post (fI, nI I, nI G, fS, fC, fM, nu, ce, ix, ne, di, be, cr, cw, dm, cg, nb) s :=
  ⟨26, bb_nr7 pz hSol K 24 0 26 s (bb_rk_le _ _) (by omega) (by omega) w (fun _ h => h) (fun _ _ h => h)⟩
end
end
section
/-! counts over assignments as numbers below 3^G; digits -/
noncomputable def bb_01 (q : Prop) : Nat := @ite Nat q (Classical.propDecidable q) 1 0
theorem bb_01_t {q : Prop} (h : q) : bb_01 q = 1 := @if_pos q (Classical.propDecidable q) h Nat 1 0
theorem bb_01_f {q : Prop} (h : ¬ q) : bb_01 q = 0 := @if_neg q (Classical.propDecidable q) h Nat 1 0
noncomputable def bb_cn (q : Nat → Prop) : Nat → Nat
  | 0 => 0
  | n + 1 => bb_cn q n + bb_01 (q n)
theorem bb_cn_t {q : Nat → Prop} {n : Nat} (h : q n) : bb_cn q (n + 1) = bb_cn q n + 1 := by
  show bb_cn q n + bb_01 (q n) = _
  rw [bb_01_t h]
theorem bb_cn_f {q : Nat → Prop} {n : Nat} (h : ¬ q n) : bb_cn q (n + 1) = bb_cn q n := by
  show bb_cn q n + bb_01 (q n) = _
  rw [bb_01_f h]; rfl
theorem bb_cn_eq {q q' : Nat → Prop} : ∀ n, (∀ i, i < n → (q i ↔ q' i)) → bb_cn q n = bb_cn q' n := by
  intro n
  induction n with
  | zero => intro _; rfl
  | succ n ih =>
    intro h
    have h1 := ih (fun i hi => h i (by omega))
    have h2 := h n (by omega)
    by_cases z : q n
    · rw [bb_cn_t z, bb_cn_t (h2.mp z), h1]
    · rw [bb_cn_f z, bb_cn_f (fun y => z (h2.mpr y)), h1]
theorem bb_cn_add {q : Nat → Prop} {k : Nat} (hk : ¬ q k) : ∀ n, k < n → bb_cn (fun i => q i ∨ i = k) n = bb_cn q n + 1 := by
  intro n
  induction n with
  | zero => intro h; exact absurd h (Nat.not_lt_zero _)
  | succ n ih =>
    intro h
    by_cases e : k = n
    · have h1 : bb_cn (fun i => q i ∨ i = k) n = bb_cn q n := bb_cn_eq n (fun i hi => ⟨fun z => z.elim (fun y => y) (fun y => by omega), Or.inl⟩)
      rw [bb_cn_t (show q n ∨ n = k from Or.inr e.symm), bb_cn_f (show ¬ q n from e ▸ hk), h1]
    · have h1 := ih (by omega)
      by_cases z : q n
      · rw [bb_cn_t (show q n ∨ n = k from Or.inl z), bb_cn_t z, h1]
      · rw [bb_cn_f (show ¬ (q n ∨ n = k) from fun y => y.elim z (fun w => e w.symm)), bb_cn_f z, h1]
theorem bb_cn_none {q : Nat → Prop} : ∀ n, (∀ i, i < n → ¬ q i) → bb_cn q n = 0 := by
  intro n
  induction n with
  | zero => intro _; rfl
  | succ n ih =>
    intro h
    rw [bb_cn_f (h n (by omega))]
    exact ih (fun i hi => h i (by omega))
theorem bb_cn_0 {q : Nat → Prop} : ∀ n, bb_cn q n = 0 → ∀ i, i < n → ¬ q i := by
  intro n
  induction n with
  | zero => intro _ i hi; exact absurd hi (Nat.not_lt_zero _)
  | succ n ih =>
    intro h i hi
    by_cases z : q n
    · rw [bb_cn_t z] at h; omega
    · rw [bb_cn_f z] at h
      by_cases e : i = n
      · rw [e]; exact z
      · exact ih h i (by omega)
theorem bb_cn_le (q : Nat → Prop) : ∀ n, bb_cn q n ≤ n := by
  intro n
  induction n with
  | zero => exact Nat.le_refl _
  | succ n ih =>
    by_cases z : q n
    · rw [bb_cn_t z]; omega
    · rw [bb_cn_f z]; omega
/-- the count by the value of a digit -/
theorem bb_cn_3 {q : Nat → Prop} {f : Nat → Nat} (hf : ∀ i, f i < 3) : ∀ n, bb_cn q n = bb_cn (fun i => q i ∧ f i = 0) n + bb_cn (fun i => q i ∧ f i = 1) n + bb_cn (fun i => q i ∧ f i = 2) n := by
  intro n
  induction n with
  | zero => rfl
  | succ n ih =>
    by_cases z : q n
    · have h3 := hf n
      rw [bb_cn_t z]
      by_cases e0 : f n = 0
      · rw [bb_cn_t (show q n ∧ f n = 0 from ⟨z, e0⟩), bb_cn_f (show ¬ (q n ∧ f n = 1) from fun y => by omega), bb_cn_f (show ¬ (q n ∧ f n = 2) from fun y => by omega), ih]; omega
      · by_cases e1 : f n = 1
        · rw [bb_cn_f (show ¬ (q n ∧ f n = 0) from fun y => by omega), bb_cn_t (show q n ∧ f n = 1 from ⟨z, e1⟩), bb_cn_f (show ¬ (q n ∧ f n = 2) from fun y => by omega), ih]; omega
        · rw [bb_cn_f (show ¬ (q n ∧ f n = 0) from fun y => by omega), bb_cn_f (show ¬ (q n ∧ f n = 1) from fun y => by omega), bb_cn_t (show q n ∧ f n = 2 from ⟨z, by omega⟩), ih]; omega
    · rw [bb_cn_f z, bb_cn_f (show ¬ (q n ∧ f n = 0) from fun y => z y.1), bb_cn_f (show ¬ (q n ∧ f n = 1) from fun y => z y.1), bb_cn_f (show ¬ (q n ∧ f n = 2) from fun y => z y.1)]
      exact ih
/-! digits, the first the most weighty -/
def bb_dg (G i g : Nat) : Nat := i / 3 ^ (G - 1 - g) % 3
def bb_en (b : Nat → Nat) : Nat → Nat
  | 0 => 0
  | g + 1 => 3 * bb_en b g + b g
theorem bb_dg3 (G i g : Nat) : bb_dg G i g < 3 := Nat.mod_lt _ (by omega)
theorem bb_en_eq {b b' : Nat → Nat} : ∀ n, (∀ g, g < n → b g = b' g) → bb_en b n = bb_en b' n := by
  intro n
  induction n with
  | zero => intro _; rfl
  | succ n ih =>
    intro h
    show 3 * bb_en b n + b n = 3 * bb_en b' n + b' n
    rw [ih (fun g hg => h g (by omega)), h n (by omega)]
theorem bb_en_lt {b : Nat → Nat} : ∀ n, (∀ g, g < n → b g < 3) → bb_en b n < 3 ^ n := by
  intro n
  induction n with
  | zero => intro _; exact Nat.lt_succ_self 0
  | succ n ih =>
    intro h
    have h1 := ih (fun g hg => h g (by omega))
    have h2 := h n (by omega)
    have h3 : 3 ^ (n + 1) = 3 ^ n * 3 := Nat.pow_succ 3 n
    have h4 : bb_en b (n + 1) = 3 * bb_en b n + b n := rfl
    omega
theorem bb_en_div {b : Nat → Nat} (m : Nat) : ∀ k, (∀ g, g < m + k → b g < 3) → bb_en b (m + k) / 3 ^ k = bb_en b m := by
  intro k
  induction k with
  | zero => intro _; exact Nat.div_one _
  | succ k ih =>
    intro h
    have h1 := ih (fun g hg => h g (by omega))
    have h2 := h (m + k) (by omega)
    have h3 : 3 ^ (k + 1) = 3 * 3 ^ k := Nat.pow_succ'
    have h4 : bb_en b (m + (k + 1)) = 3 * bb_en b (m + k) + b (m + k) := rfl
    rw [h3, ← Nat.div_div_eq_div_mul, h4, show (3 * bb_en b (m + k) + b (m + k)) / 3 = bb_en b (m + k) by omega, h1]
theorem bb_dg_of {b : Nat → Nat} {G g : Nat} (h : ∀ g, g < G → b g < 3) (hg : g < G) : bb_dg G (bb_en b G) g = b g := by
  have e := bb_en_div (b := b) (g + 1) (G - 1 - g) (fun k hk => h k (by omega))
  rw [show g + 1 + (G - 1 - g) = G by omega] at e
  unfold bb_dg
  rw [e]
  show (3 * bb_en b g + b g) % 3 = b g
  have := h g hg
  omega
theorem bb_en_dg' {G i : Nat} (hi : i < 3 ^ G) : ∀ m, m ≤ G → bb_en (bb_dg G i) m = i / 3 ^ (G - m) := by
  intro m
  induction m with
  | zero => intro _; exact (Nat.div_eq_of_lt hi).symm
  | succ m ih =>
    intro hm
    have h1 := ih (by omega)
    show 3 * bb_en (bb_dg G i) m + bb_dg G i m = _
    rw [h1]
    unfold bb_dg
    have e : 3 ^ (G - m) = 3 ^ (G - (m + 1)) * 3 := by
      rw [← Nat.pow_succ]
      exact congrArg (fun k => 3 ^ k) (by omega)
    rw [e, ← Nat.div_div_eq_div_mul, show G - 1 - m = G - (m + 1) by omega]
    omega
theorem bb_en_dg {G i : Nat} (hi : i < 3 ^ G) : bb_en (bb_dg G i) G = i := by
  rw [bb_en_dg' hi G (Nat.le_refl _), Nat.sub_self]
  exact Nat.div_one _
theorem bb_dg_inj {G i j : Nat} (hi : i < 3 ^ G) (hj : j < 3 ^ G) (h : ∀ g, g < G → bb_dg G i g = bb_dg G j g) : i = j := by
  rw [← bb_en_dg hi, ← bb_en_dg hj]
  exact bb_en_eq G h
theorem bb_lex {G i j g : Nat} (hi : i < 3 ^ G) (hj : j < 3 ^ G) (hg : g < G) (h : ∀ k, k < g → bb_dg G i k = bb_dg G j k) (hl : bb_dg G i g < bb_dg G j g) : i < j := by
  have e1 := bb_en_dg' hi (g + 1) (by omega)
  have e2 := bb_en_dg' hj (g + 1) (by omega)
  have e3 := bb_en_eq g h
  have e4 : bb_en (bb_dg G i) (g + 1) = 3 * bb_en (bb_dg G i) g + bb_dg G i g := rfl
  have e5 : bb_en (bb_dg G j) (g + 1) = 3 * bb_en (bb_dg G j) g + bb_dg G j g := rfl
  have e6 : i / 3 ^ (G - (g + 1)) < j / 3 ^ (G - (g + 1)) := by omega
  apply Classical.byContradiction
  intro hc
  have : j / 3 ^ (G - (g + 1)) ≤ i / 3 ^ (G - (g + 1)) := Nat.div_le_div_right (by omega)
  omega
/-- the next assignment -/
theorem bb_en_tail0 {b : Nat → Nat} (m : Nat) : ∀ k, (∀ g, m ≤ g → g < m + k → b g = 0) → bb_en b (m + k) = bb_en b m * 3 ^ k := by
  intro k
  induction k with
  | zero => intro _; exact (Nat.mul_one _).symm
  | succ k ih =>
    intro h
    have h1 := ih (fun g h1 h2 => h g h1 (by omega))
    have h2 := h (m + k) (by omega) (by omega)
    have h4 : bb_en b (m + (k + 1)) = 3 * bb_en b (m + k) + b (m + k) := rfl
    have h5 : bb_en b m * 3 ^ (k + 1) = bb_en b m * 3 ^ k * 3 := by rw [Nat.pow_succ, Nat.mul_assoc]
    rw [h4, h1, h2, h5]
    omega
theorem bb_en_tail2 {b : Nat → Nat} (m : Nat) : ∀ k, (∀ g, m ≤ g → g < m + k → b g = 2) → bb_en b (m + k) + 1 = (bb_en b m + 1) * 3 ^ k := by
  intro k
  induction k with
  | zero => intro _; exact (Nat.mul_one _).symm
  | succ k ih =>
    intro h
    have h1 := ih (fun g h1 h2 => h g h1 (by omega))
    have h2 := h (m + k) (by omega) (by omega)
    have h4 : bb_en b (m + (k + 1)) = 3 * bb_en b (m + k) + b (m + k) := rfl
    rw [h4, h2, Nat.pow_succ, ← Nat.mul_assoc, ← h1]
    omega
theorem bb_next {b b' : Nat → Nat} {m k : Nat} (h2 : ∀ g, m + 1 ≤ g → g < m + 1 + k → b g = 2) (h0 : ∀ g, m + 1 ≤ g → g < m + 1 + k → b' g = 0) (hs : ∀ g, g < m → b' g = b g) (hm : b' m = b m + 1) : bb_en b' (m + 1 + k) = bb_en b (m + 1 + k) + 1 := by
  rw [bb_en_tail2 (m + 1) k h2, bb_en_tail0 (m + 1) k h0]
  show (3 * bb_en b' m + b' m) * 3 ^ k = (3 * bb_en b m + b m + 1) * 3 ^ k
  rw [bb_en_eq m hs, hm]
  rfl
theorem bb_3G {G : Nat} (h : G ≤ 8) : 3 ^ G ≤ 6561 := Nat.le_trans (Nat.pow_le_pow_right (by omega) h) (by decide)
/-! what the search has gathered over the set S of assignments -/
def bb_Acc (G : Nat) (S : Nat → Prop) (fC fM : Int32) (cw : Nat → Int32) : Prop :=
  fC = nI (bb_cn S (3 ^ G)) ∧
  (∀ g b, g < G → b < 3 → cw (3 * g + b) = nI (bb_cn (fun i => S i ∧ bb_dg G i g = b) (3 ^ G))) ∧
  ((∀ i, i < 3 ^ G → ¬ S i) ∨ ∃ i, i < 3 ^ G ∧ S i ∧ (∀ j, j < 3 ^ G → S j → i ≤ j) ∧ ∀ g, g < G → bb_lo fM g = bb_dg G i g)
theorem bb_Acc_eq {G : Nat} {S S' : Nat → Prop} {fC fM : Int32} {cw : Nat → Int32} (h : ∀ i, i < 3 ^ G → (S i ↔ S' i)) (a : bb_Acc G S fC fM cw) : bb_Acc G S' fC fM cw := by
  obtain ⟨a1, a2, a3⟩ := a
  refine ⟨?_, ?_, ?_⟩
  · rw [a1, bb_cn_eq _ h]
  · intro g b hg hb
    rw [a2 g b hg hb]
    exact congrArg nI (bb_cn_eq _ (fun i hi => and_congr_left' (h i hi)))
  · rcases a3 with a3 | ⟨i, h1, h2, h3, h4⟩
    · exact Or.inl (fun i hi hs => a3 i hi ((h i hi).mpr hs))
    · exact Or.inr ⟨i, h1, (h i h1).mp h2, fun j hj hs => h3 j hj ((h j hj).mpr hs), h4⟩
theorem bb_Acc_0 {G : Nat} {S : Nat → Prop} {fM : Int32} {cw : Nat → Int32} (hS : ∀ i, i < 3 ^ G → ¬ S i) (hc : ∀ k, k < 24 → cw k = 0) (hG : G ≤ 8) : bb_Acc G S 0 fM cw := by
  refine ⟨?_, ?_, Or.inl hS⟩
  · rw [bb_cn_none _ hS]; rfl
  · intro g b hg hb
    rw [hc _ (by omega), bb_cn_none _ (fun i hi z => hS i hi z.1)]; rfl
theorem bb_Acc_add {G : Nat} {S : Nat → Prop} {fC fM s : Int32} {cw cw' : Nat → Int32} {k : Nat} (hG : G ≤ 8) (a : bb_Acc G S fC fM cw)
    (hk : k < 3 ^ G) (hlt : ∀ j, j < 3 ^ G → S j → j < k) (hlo : ∀ g, g < G → bb_lo s g = bb_dg G k g)
    (hcw : ∀ g b, g < G → b < 3 → cw' (3 * g + b) = cw (3 * g + b) + (if b = bb_lo s g then 1 else 0)) :
    bb_Acc G (fun i => S i ∨ i = k) (fC + 1) (if fC = 0 then s else fM) cw' := by
  have h3 := bb_3G hG
  have hnk : ¬ S k := fun z => Nat.lt_irrefl k (hlt k hk z)
  obtain ⟨a1, a2, a3⟩ := a
  refine ⟨?_, ?_, ?_⟩
  · rw [a1, nI_1, bb_cn_add hnk _ hk]
  · intro g b hg hb
    rw [hcw g b hg hb, a2 g b hg hb, hlo g hg]
    by_cases e : b = bb_dg G k g
    · rw [if_pos e, nI_1]
      have h1 : bb_cn (fun i => (S i ∨ i = k) ∧ bb_dg G i g = b) (3 ^ G) = bb_cn (fun i => (S i ∧ bb_dg G i g = b) ∨ i = k) (3 ^ G) := by
        refine bb_cn_eq _ (fun i _ => ⟨?_, ?_⟩)
        · rintro ⟨z | z, w⟩
          · exact Or.inl ⟨z, w⟩
          · exact Or.inr z
        · rintro (⟨z, w⟩ | z)
          · exact ⟨Or.inl z, w⟩
          · exact ⟨Or.inr z, by rw [z]; exact e.symm⟩
      rw [h1, bb_cn_add (q := fun i => S i ∧ bb_dg G i g = b) (fun z => hnk z.1) _ hk]
    · rw [if_neg e, Int32.add_zero]
      refine congrArg nI (bb_cn_eq _ (fun i _ => ⟨fun z => ⟨Or.inl z.1, z.2⟩, ?_⟩))
      rintro ⟨z | z, w⟩
      · exact ⟨z, w⟩
      · rw [z] at w; exact absurd w.symm e
  · refine Or.inr ?_
    have hc0 : fC = 0 ↔ bb_cn S (3 ^ G) = 0 := by
      have := bb_cn_le S (3 ^ G)
      rw [a1, ← nI_0, nI_eq (by omega) (by omega)]
    rcases a3 with a3 | ⟨i, h1, h2, h3, h4⟩
    · refine ⟨k, hk, Or.inr rfl, ?_, ?_⟩
      · rintro j hj (z | z)
        · exact absurd z (a3 j hj)
        · omega
      · intro g hg
        rw [if_pos (hc0.mpr (bb_cn_none _ a3))]; exact hlo g hg
    · refine ⟨i, h1, Or.inl h2, ?_, ?_⟩
      · rintro j hj (z | z)
        · exact h3 j hj z
        · have := hlt i h1 h2; omega
      · intro g hg
        rw [if_neg (fun z => bb_cn_0 _ (hc0.mp z) i h1 h2)]; exact h4 g hg
end
section
/-! X: firstOpen, keep, guess -/
def bb_sg (s : Int32) (g : Nat) : Bool := bb_am (bt s (3 * g)) (bt s (3 * g + 1)) (bt s (3 * g + 2))
theorem bb_dn_b (s : Int32) (g : Nat) {b : Nat} (hb : b < 3) : bt (nI (bb_dn s g)) b = bt s (3 * g + b) := by
  unfold bb_dn
  rw [bb_dv_bt _ _ _ b (by omega)]
  match b, hb with
  | 0, _ => rfl
  | 1, _ => rfl
  | 2, _ => rfl
theorem bb_sg_Sb {r s : Int32} (h : bb_Sb r s) {g : Nat} (hs : bb_sg s g = true) : bb_sg r g = true := by
  have h0 := h (3 * g)
  have h1 := h (3 * g + 1)
  have h2 := h (3 * g + 2)
  unfold bb_sg bb_am at *
  revert h0 h1 h2 hs
  generalize bt r (3 * g) = x0
  generalize bt r (3 * g + 1) = x1
  generalize bt r (3 * g + 2) = x2
  generalize bt s (3 * g) = y0
  generalize bt s (3 * g + 1) = y1
  generalize bt s (3 * g + 2) = y2
  cases x0 <;> cases x1 <;> cases x2 <;> cases y0 <;> cases y1 <;> cases y2 <;> decide
/-- a single value -/
theorem bb_sg_eq {s : Int32} {g j : Nat} (hs : bb_sg s g = true) (hj : j < 3) (h : bt s (3 * g + j) = true) : j = bb_lo s g := by
  unfold bb_sg bb_am at hs
  unfold bb_lo
  match j, hj with
  | 0, _ => rw [if_pos (show bt s (3 * g) = true from h)]
  | 1, _ =>
    rw [h] at hs
    rw [h]
    cases z : bt s (3 * g)
    · rfl
    · rw [z] at hs; revert hs; cases bt s (3 * g + 2) <;> decide
  | 2, _ =>
    rw [h] at hs
    cases z : bt s (3 * g)
    · cases y : bt s (3 * g + 1)
      · rfl
      · rw [z, y] at hs; revert hs; decide
    · rw [z] at hs; revert hs; cases bt s (3 * g + 1) <;> decide
theorem bb_lo_bt {s : Int32} {g : Nat} (h : bb_ne s g) : bt s (3 * g + bb_lo s g) = true := by
  unfold bb_lo
  unfold bb_ne at h
  cases z : bt s (3 * g)
  · cases y : bt s (3 * g + 1)
    · rw [z, y] at h
      rcases h with h | h | h
      · cases h
      · cases h
      · exact h
    · exact y
  · exact z
theorem bb_hi_sg {s : Int32} {g : Nat} (h : bb_ne s g) (hs : bb_sg s g = true) : bb_hi s g = bb_lo s g := by
  unfold bb_sg bb_am at hs
  unfold bb_ne at h
  unfold bb_lo bb_hi
  revert h hs
  generalize bt s (3 * g) = y0
  generalize bt s (3 * g + 1) = y1
  generalize bt s (3 * g + 2) = y2
  cases y0 <;> cases y1 <;> cases y2 <;> decide
section
variable {fI fL fG fS fC fM : Int32} {nu ce ix ne di : Nat → Int32} {be : Nat → Int64} {cr cw dm cg nb : Nat → Int32} {G I : Nat} {A B D : Nat → Nat} {C : Nat → Nat → Bool} {Sol : (Nat → Nat) → Prop}
theorem bb_fo2 {post : Int32 → Prop} {s : Int32} (hG : G ≤ 8)
    (K1 : ∀ g, g < G → (∀ h, h < g → bb_sg s h = true) → bb_sg s g = false → post (nI g))
    (K0 : (∀ h, h < G → bb_sg s h = true) → post (-1)) :
    ∀ d g n, g + d = G → d < n → (∀ h, h < g → bb_sg s h = true) → wX_firstOpen_2 post s fI (nI I) (nI G) fS fC fM nu ce ix ne di be cr cw dm cg nb n (nI g) := by
  intro d
  induction d with
  | zero =>
    intro g n hd hn hg
    obtain ⟨n, rfl⟩ : ∃ k, n = k + 1 := ⟨n - 1, by omega⟩
    obtain rfl : g = G := by omega
    exact br_t (nI_le (by omega) (by omega)) (K0 hg)
  | succ d ih =>
    intro g n hd hn hg
    obtain ⟨n, rfl⟩ : ∃ k, n = k + 1 := ⟨n - 1, by omega⟩
    refine br_f (nI_ge (by omega) (by omega)) (bb_wdom (by omega) (ek_if (bb_dv_am _ _ _) (fun h => nm_r (nI_1 _) (ih (g + 1) n (by omega) (by omega) (fun k hk => ?_))) (fun h => K1 g (by omega) hg ?_)))
    · by_cases e : k = g
      · rw [e]; exact h
      · exact hg k (by omega)
    · cases z : bb_sg s g
      · rfl
      · exact absurd z h
theorem bb_wfo {post : Int32 → Prop} {s : Int32} (hG : G ≤ 8)
    (K1 : ∀ g, g < G → (∀ h, h < g → bb_sg s h = true) → bb_sg s g = false → post (nI g))
    (K0 : (∀ h, h < G → bb_sg s h = true) → post (-1)) : wpX_firstOpen post (fI, nI I, nI G, fS, fC, fM, nu, ce, ix, ne, di, be, cr, cw, dm, cg, nb) s :=
  ⟨G + 1, bb_fo2 hG K1 K0 G 0 (G + 1) (by omega) (by omega) (fun h hh => absurd hh (Nat.not_lt_zero _))⟩
theorem bb_kp24 {post : SX → Prop} {s : Int32} (hG : G ≤ 8)
    (K : ∀ cw', (∀ g b, g < G → b < 3 → cw' (3 * g + b) = cw (3 * g + b) + (if b = bb_lo s g then 1 else 0)) → post (fI, nI I, nI G, fS, fC, fM, nu, ce, ix, ne, di, be, cr, cw', dm, cg, nb)) :
    ∀ d g n cw', g + d = G → d < n → (∀ k b, k < G → b < 3 → cw' (3 * k + b) = cw (3 * k + b) + (if k < g ∧ b = bb_lo s k then 1 else 0)) →
    wX_keep_24 post s fI (nI I) (nI G) fS fC fM n (nI g) nu ce ix ne di be cr cw' dm cg nb := by
  intro d
  induction d with
  | zero =>
    intro g n cw' hd hn h
    obtain ⟨n, rfl⟩ : ∃ k, n = k + 1 := ⟨n - 1, by omega⟩
    obtain rfl : g = G := by omega
    refine br_t (nI_le (by omega) (by omega)) (K cw' (fun k b hk hb => ?_))
    rw [h k b hk hb]
    by_cases e : b = bb_lo s k
    · rw [if_pos e, if_pos ⟨hk, e⟩]
    · rw [if_neg e, if_neg (fun z => e z.2)]
  | succ d ih =>
    intro g n cw' hd hn h
    obtain ⟨n, rfl⟩ : ∃ k, n = k + 1 := ⟨n - 1, by omega⟩
    have h2 := bb_lo2 s g
    have e1 : (3 : Int32) * nI g + nI (bb_lo s g) = nI (3 * g + bb_lo s g) := by rw [bb_3g, nI_add]
    refine br_f (nI_ge (by omega) (by omega)) (bb_wdom (by omega) (bb_wlow ?_))
    rw [e1, nI_clamp (show 3 * g + bb_lo s g < 2 ^ 31 by omega)]
    refine ⟨vp_in_nI (by omega) (by omega), vp_in_nI (by omega) (by omega), nm_e (nm_r (nI_1 _) (ih (g + 1) n _ (by omega) (by omega) (fun k b hk hb => ?_)))⟩
    by_cases e : 3 * k + b = 3 * g + bb_lo s g
    · have ek : k = g := by omega
      have eb : b = bb_lo s g := by omega
      rw [ek, eb, pk_us, h g (bb_lo s g) (by omega) (by omega), if_neg (by omega), if_pos ⟨by omega, rfl⟩, Int32.add_zero]
    · rw [pk_un e, h k b hk hb]
      by_cases z : k < g ∧ b = bb_lo s k
      · rw [if_pos z, if_pos ⟨by omega, z.2⟩]
      · rw [if_neg z, if_neg ?_]
        intro y
        by_cases ek : k = g
        · rw [ek] at e y; omega
        · exact z ⟨by omega, y.2⟩
theorem bb_wkp {post : SX → Prop} {s : Int32} (hG : G ≤ 8)
    (K : ∀ cw', (∀ g b, g < G → b < 3 → cw' (3 * g + b) = cw (3 * g + b) + (if b = bb_lo s g then 1 else 0)) → post (fI, nI I, nI G, fS, fC + 1, if fC = 0 then s else fM, nu, ce, ix, ne, di, be, cr, cw', dm, cg, nb)) :
    wpX_keep post (fI, nI I, nI G, fS, fC, fM, nu, ce, ix, ne, di, be, cr, cw, dm, cg, nb) s := by
  have hc : ∀ k b, k < G → b < 3 → cw (3 * k + b) = cw (3 * k + b) + (if k < 0 ∧ b = bb_lo s k then 1 else 0) := by
    intro k b _ _
    rw [if_neg (by omega), Int32.add_zero]
  unfold wpX_keep
  refine br_c (fun h => ?_) (fun h => ?_)
  · refine nm_e ⟨G + 1, bb_kp24 hG ?_ G 0 (G + 1) cw (by omega) (by omega) hc⟩
    intro cw' h'
    have := K cw' h'
    rw [if_pos h] at this
    exact this
  · refine nm_e ⟨G + 1, bb_kp24 hG ?_ G 0 (G + 1) cw (by omega) (by omega) hc⟩
    intro cw' h'
    have := K cw' h'
    rw [if_neg h] at this
    exact this
theorem bb_wgs {post : Int32 → SX → Prop} {s : Int32} {d g b : Nat} (pz : bb_PZ G I A B D C nu ce ne di cr)
    (hSol : ∀ b, Sol b → bb_Sol G I A B D C b) (w : bb_WF G s) (hd : d < 9) (hg : g < G) (hb : b ≤ 3)
    (en : nb d = nI b) (ec : cg d = nI g) (ed : dm d = s)
    (K3 : b = 3 → post 0 (fI, nI I, nI G, fS, fC, fM, nu, ce, ix, ne, di, be, cr, cw, dm, cg, nb))
    (K0 : b < 3 → (∀ β, Sol β → bb_In G s β → β g ≠ b) → post 0 (fI, nI I, nI G, fS, fC, fM, nu, ce, ix, ne, di, be, cr, cw, dm, cg, upd nb d (nI (b + 1))))
    (K1 : b < 3 → ∀ r, bb_WF G r → bb_Sb r (bb_re s g ((1 : Int32) <<< (nI b &&& 31))) → (∀ β, Sol β → bb_In G s β → β g = b → bb_In G r β) → bb_Chk G I A B D C r →
      post 1 (fI, nI I, nI G, fS, fC, fM, nu, ce, ix, ne, di, be, cr, cw, upd dm (d + 1) r, cg, upd nb d (nI (b + 1)))) :
    wpX_guess post (fI, nI I, nI G, fS, fC, fM, nu, ce, ix, ne, di, be, cr, cw, dm, cg, nb) (nI d) := by
  have hG := pz.1
  unfold wpX_guess
  refine And.intro (vp_in_nI (by omega) (by omega)) ?_
  rw [nI_clamp (show d < 2 ^ 31 by omega), ed]
  refine nm_r en (pk_le b 2 (fun h => ⟨vp_in_nI (by omega) (by omega), nm_e ⟨vp_in_nI (by omega) (by omega), nm_r ec ⟨vp_in_nI (by omega) (by omega), bb_wdom (by omega) ?_⟩⟩⟩) (fun h => K3 (by omega)))
  have hb3 : b < 3 := by omega
  rw [nI_1]
  refine ek_if (bb_cbit (by omega)) (fun hz => K0 hb3 ?_) (fun hz => ⟨vp_in_nI (by omega) (by omega), bb_wres ?_⟩)
  · intro β hβ hs e
    rw [bb_dn_b s g hb3, ← e, (hs g hg).2] at hz
    cases hz
  · have hz := bb_nf hz
    rw [bb_dn_b s g hb3] at hz
    have hne : bb_ne (bb_re s g ((1 : Int32) <<< (nI b &&& 31))) g := by
      have h1 : bt (bb_re s g ((1 : Int32) <<< (nI b &&& 31))) (3 * g + b) = true := by
        rw [bb_re_at s (by omega) _ hb3, hz, bb_one (by omega), decide_eq_true rfl]; rfl
      unfold bb_ne
      match b, hb3 with
      | 0, _ => exact Or.inl h1
      | 1, _ => exact Or.inr (Or.inl h1)
      | 2, _ => exact Or.inr (Or.inr h1)
    have hin : ∀ β, bb_In G s β → β g = b → bb_In G (bb_re s g ((1 : Int32) <<< (nI b &&& 31))) β := by
      intro β hs e
      refine bb_re_In hG hg hs ?_
      rw [bb_one (by omega), decide_eq_true e]
    refine bb_wnr pz hSol (bb_re_WF hG hg w hne) (fun r hr => ?_)
    rcases hr with ⟨e, hr⟩ | ⟨wr, hS, hP, hC⟩
    · rw [e]
      exact br_f (by decide) (K0 hb3 (fun β hβ hs e => hr β hβ (hin β hs e)))
    · refine br_t (bb_WF_0 hG wr) ?_
      rw [nI_1 d, nI_clamp (show d + 1 < 2 ^ 31 by omega)]
      exact ⟨vp_in_nI (by omega) (by omega), nm_e (K1 hb3 r wr hS (fun β hβ hs e => hP β hβ (hin β hs e)) hC)⟩
end
end
section
/-! X: the search -/
def bb_T : Nat → Nat
  | 0 => 1
  | k + 1 => 5 + 3 * bb_T k
def bb_oc (G : Nat) (s : Int32) : Nat := bb_rk (fun g => !bb_sg s g) G
theorem bb_T1 : ∀ k, 1 ≤ bb_T k := by
  intro k
  cases k with
  | zero => exact Nat.le_refl _
  | succ k => show 1 ≤ 5 + 3 * bb_T k; omega
theorem bb_Sol_ext {G I : Nat} {A B D : Nat → Nat} {C : Nat → Nat → Bool} {b b' : Nat → Nat} (h : ∀ g, g < G → b g = b' g) (hs : bb_Sol G I A B D C b) : bb_Sol G I A B D C b' := by
  obtain ⟨h1, h2, h3⟩ := hs
  refine ⟨fun i hi => ?_, fun g k hg hk hC => ?_, bb_Cn_mono (fun g hg hu => ?_) h3⟩
  · rw [← h1 i hi]; exact (bb_sm_eq G h).symm
  · rw [← h g hg, ← h k hk]; exact h2 g k hg hk hC
  · rw [← h g hg]; exact hu
theorem bb_leaf {G I : Nat} {A B D : Nat → Nat} {C : Nat → Nat → Bool} {s : Int32} (w : bb_WF G s) (hC : bb_Chk G I A B D C s) (h1 : ∀ h, h < G → bb_sg s h = true) : bb_Sol G I A B D C (bb_lo s) := by
  obtain ⟨c1, c2, c3⟩ := hC
  refine ⟨fun i hi => ?_, fun g h hg hh hC => ?_, bb_Cn_mono (fun g hg hu => ?_) c3⟩
  · obtain ⟨q1, q2⟩ := c1 i hi
    rw [bb_sm_eq (f' := bb_lo s) G (fun g hg => bb_hi_sg (w.2 g hg) (h1 g hg))] at q2
    omega
  · cases z : bt s (3 * g) with
    | true =>
      refine Or.inl ?_
      unfold bb_lo
      rw [if_pos z]
    | false =>
      have q := c2 g hg z h hh hC
      refine Or.inr ?_
      have hn := w.2 h hh
      unfold bb_ne at hn
      unfold bb_lo
      revert q hn
      generalize bt s (3 * h) = y0
      generalize bt s (3 * h + 1) = y1
      generalize bt s (3 * h + 2) = y2
      cases y0 <;> cases y1 <;> cases y2 <;> decide
  · refine decide_eq_true (fun e => ?_)
    rcases Bool.or_eq_true _ _ |>.mp hu with z | z
    · have := bb_sg_eq (h1 g hg) (by omega) z; omega
    · have := bb_sg_eq (h1 g hg) (by omega) z; omega
theorem bb_leaf_one {G : Nat} {s : Int32} {b : Nat → Nat} (h1 : ∀ h, h < G → bb_sg s h = true) (h : bb_In G s b) : ∀ g, g < G → b g = bb_lo s g :=
  fun g hg => bb_sg_eq (h1 g hg) (h g hg).1 (h g hg).2
theorem bb_leaf_in {G : Nat} {s : Int32} {b : Nat → Nat} (w : bb_WF G s) (h : ∀ g, g < G → b g = bb_lo s g) : bb_In G s b := by
  intro g hg
  have := bb_lo2 s g
  rw [h g hg]
  exact ⟨by omega, bb_lo_bt (w.2 g hg)⟩
theorem bb_oc_lt {G : Nat} {s r t : Int32} {g : Nat} (hG : G ≤ 8) (hg : g < G) {b : Nat} (hb : b < 3) (ht : t = (1 : Int32) <<< (nI b &&& 31)) (hs : bb_sg s g = false) (hS : bb_Sb r (bb_re s g t)) : bb_oc G r < bb_oc G s := by
  have h0 : bb_sg (bb_re s g t) g = true := by
    unfold bb_sg
    rw [bb_re_at s (by omega) t (j := 1) (by omega), bb_re_at s (by omega) t (j := 2) (by omega), show bt (bb_re s g t) (3 * g) = _ from bb_re_at s (by omega) t (j := 0) (by omega), ht, bb_one (by omega), bb_one (by omega), bb_one (by omega)]
    match b, hb with
    | 0, _ => cases bt s (3 * g) <;> cases bt s (3 * g + 1) <;> cases bt s (3 * g + 2) <;> cases bt s (3 * g + 0) <;> decide
    | 1, _ => cases bt s (3 * g) <;> cases bt s (3 * g + 1) <;> cases bt s (3 * g + 2) <;> cases bt s (3 * g + 0) <;> decide
    | 2, _ => cases bt s (3 * g) <;> cases bt s (3 * g + 1) <;> cases bt s (3 * g + 2) <;> cases bt s (3 * g + 0) <;> decide
  have h1 : bb_sg r g = true := bb_sg_Sb hS h0
  unfold bb_oc
  refine bb_rk_sublt (k := g) ?_ ?_ G hg ?_
  · show (!bb_sg s g) = true
    rw [hs]; rfl
  · show (!bb_sg r g) = false
    rw [h1]; rfl
  · intro i _ hi
    have hi : (!bb_sg r i) = true := hi
    show (!bb_sg s i) = true
    cases z : bb_sg s i
    · rfl
    · rw [bb_sg_Sb (fun k hk => bb_re_Sb s (by omega) t k (hS k hk)) z] at hi; cases hi
/-- the claim of the search below a node with at most k gaps undecided -/
def bb_SC (post : SX → Prop) (G I : Nat) (A B D : Nat → Nat) (C : Nat → Nat → Bool) (fI fS : Int32) (nu ce ix ne di : Nat → Int32) (be : Nat → Int64) (cr : Nat → Int32) (k : Nat) : Prop :=
  ∀ (d st n : Nat) (S : Nat → Prop) (fC fM : Int32) (cw dm cg nb : Nat → Int32),
    bb_oc G (dm d) ≤ k → d + k ≤ 8 → st + bb_T k ≤ 60000 → 60000 < n + st → bb_WF G (dm d) → bb_Chk G I A B D C (dm d) → bb_Acc G S fC fM cw →
    (∀ i j, i < 3 ^ G → j < 3 ^ G → S i → bb_In G (dm d) (bb_dg G j) → i < j) →
    (∀ (n' st' : Nat) (fC' fM' : Int32) (cw' dm' cg' nb' : Nat → Int32), st' ≤ st + bb_T k → 60000 < n' + st' →
      bb_Acc G (fun i => S i ∨ (bb_Sol G I A B D C (bb_dg G i) ∧ bb_In G (dm d) (bb_dg G i))) fC' fM' cw' → (∀ e, e < d → dm' e = dm e ∧ cg' e = cg e ∧ nb' e = nb e) →
      wX_solve_86 post n' (nI d + (-1)) 0 (nI st') fI (nI I) (nI G) fS fC' fM' nu ce ix ne di be cr cw' dm' cg' nb') →
    wX_solve_86 post n (nI d) 1 (nI st) fI (nI I) (nI G) fS fC fM nu ce ix ne di be cr cw dm cg nb
section
variable {post : SX → Prop} {fI fS : Int32} {nu ce ix ne di : Nat → Int32} {be : Nat → Int64} {cr : Nat → Int32} {G I : Nat} {A B D : Nat → Nat} {C : Nat → Nat → Bool}
theorem bb_phase {k d g M : Nat} {S : Nat → Prop} {s : Int32} {dm0 cg0 nb0 : Nat → Int32} (pz : bb_PZ G I A B D C nu ce ne di cr)
    (IH : bb_SC post G I A B D C fI fS nu ce ix ne di be cr k) (hd : d + (k + 1) ≤ 8) (hg : g < G) (w : bb_WF G s)
    (hsg : ∀ h, h < g → bb_sg s h = true) (hop : bb_sg s g = false) (hoc : bb_oc G s ≤ k + 1) (hM : M ≤ 60000)
    (hord : ∀ i j, i < 3 ^ G → j < 3 ^ G → S i → bb_In G s (bb_dg G j) → i < j)
    (K : ∀ (n' st' : Nat) (fC' fM' : Int32) (cw' dm' cg' nb' : Nat → Int32), st' ≤ M → 60000 < n' + st' →
      bb_Acc G (fun i => S i ∨ (bb_Sol G I A B D C (bb_dg G i) ∧ bb_In G s (bb_dg G i))) fC' fM' cw' → (∀ e, e < d → dm' e = dm0 e ∧ cg' e = cg0 e ∧ nb' e = nb0 e) →
      wX_solve_86 post n' (nI d + (-1)) 0 (nI st') fI (nI I) (nI G) fS fC' fM' nu ce ix ne di be cr cw' dm' cg' nb') :
    ∀ (c b st n : Nat) (fC fM : Int32) (cw dm cg nb : Nat → Int32), b + c = 3 → st + c * (1 + bb_T k) + 1 ≤ M → 60000 < n + st →
    dm d = s → cg d = nI g → nb d = nI b → (∀ e, e < d → dm e = dm0 e ∧ cg e = cg0 e ∧ nb e = nb0 e) →
    bb_Acc G (fun i => S i ∨ (bb_Sol G I A B D C (bb_dg G i) ∧ bb_In G s (bb_dg G i) ∧ bb_dg G i g < b)) fC fM cw →
    wX_solve_86 post n (nI d) 0 (nI st) fI (nI I) (nI G) fS fC fM nu ce ix ne di be cr cw dm cg nb := by
  have hG := pz.1
  have hfin : ∀ {fC fM : Int32} {cw : Nat → Int32}, bb_Acc G (fun i => S i ∨ (bb_Sol G I A B D C (bb_dg G i) ∧ bb_In G s (bb_dg G i) ∧ bb_dg G i g < 3)) fC fM cw →
      bb_Acc G (fun i => S i ∨ (bb_Sol G I A B D C (bb_dg G i) ∧ bb_In G s (bb_dg G i))) fC fM cw := by
    intro fC fM cw h
    refine bb_Acc_eq (fun i _ => ⟨?_, ?_⟩) h
    · rintro (z | ⟨z1, z2, _⟩)
      · exact Or.inl z
      · exact Or.inr ⟨z1, z2⟩
    · rintro (z | ⟨z1, z2⟩)
      · exact Or.inl z
      · exact Or.inr ⟨z1, z2, bb_dg3 G i g⟩
  intro c
  induction c with
  | zero =>
    intro b st n fC fM cw dm cg nb hb hst hn ed ec en hag ha
    obtain ⟨n, rfl⟩ : ∃ k, n = k + 1 := ⟨n - 1, by omega⟩
    obtain rfl : b = 3 := by omega
    refine br_f (nI_ge (b := 60000) (by omega) (by omega)) (br_f (nI_pos (by omega)) (br_t rfl ?_))
    refine bb_wgs pz (fun _ h => h) w (by omega) hg (by omega) en ec ed (fun _ => br_t rfl (And.intro (vp_in_nI (by omega) (by omega)) ?_)) (fun h => absurd h (by omega)) (fun h => absurd h (by omega))
    rw [nI_clamp (show d < 2 ^ 31 by omega), en]
    exact br_f (nI_ge (b := 3) (a := 2) (by omega) (by omega)) (nm_e (nm_r (nI_1 _) (K n (st + 1) fC fM cw dm cg nb (by omega) (by omega) (hfin ha) hag)))
  | succ c ih =>
    intro b st n fC fM cw dm cg nb hb hst hn ed ec en hag ha
    obtain ⟨n, rfl⟩ : ∃ k, n = k + 1 := ⟨n - 1, by omega⟩
    have emul : (c + 1) * (1 + bb_T k) = c * (1 + bb_T k) + (1 + bb_T k) := Nat.succ_mul _ _
    refine br_f (nI_ge (b := 60000) (by omega) (by omega)) (br_f (nI_pos (by omega)) (br_t rfl ?_))
    refine bb_wgs pz (fun _ h => h) w (by omega) hg (by omega) en ec ed (fun h => absurd h (by omega)) (fun hb3 hno => br_t rfl (And.intro (vp_in_nI (by omega) (by omega)) ?_)) (fun hb3 r wr hS hP hC => br_f (by decide) (nm_r (nI_1 _) (nm_r (nI_1 _) ?_)))
    · have ha' : bb_Acc G (fun i => S i ∨ (bb_Sol G I A B D C (bb_dg G i) ∧ bb_In G s (bb_dg G i) ∧ bb_dg G i g < b + 1)) fC fM cw := by
        refine bb_Acc_eq (fun i _ => ⟨?_, ?_⟩) ha
        · rintro (z | ⟨z1, z2, z3⟩)
          · exact Or.inl z
          · exact Or.inr ⟨z1, z2, by omega⟩
        · rintro (z | ⟨z1, z2, z3⟩)
          · exact Or.inl z
          · have := hno _ z1 z2
            exact Or.inr ⟨z1, z2, by omega⟩
      have hag' : ∀ e, e < d → dm e = dm0 e ∧ cg e = cg0 e ∧ upd nb d (nI (b + 1)) e = nb0 e := by
        intro e he
        rw [pk_un (by omega)]; exact hag e he
      rw [nI_clamp (show d < 2 ^ 31 by omega), pk_us]
      refine pk_le (b + 1) 2 (fun h => nm_r (Int32.add_zero _) (nm_r (nI_1 _) ?_)) (fun h => nm_e (nm_r (nI_1 _) ?_))
      · exact ih (b + 1) (st + 1) n fC fM cw dm cg _ (by omega) (by omega) (by omega) ed ec pk_us hag' ha'
      · obtain rfl : b = 2 := by omega
        exact K n (st + 1) fC fM cw dm cg _ (by omega) (by omega) (hfin ha') hag'
    · have hSs : bb_Sb r s := fun k hk => bb_re_Sb s (by omega) _ k (hS k hk)
      have hdig : ∀ j, bb_In G r (bb_dg G j) → bb_In G s (bb_dg G j) ∧ bb_dg G j g = b := by
        intro j hj
        refine ⟨fun e he => ⟨(hj e he).1, hSs _ (hj e he).2⟩, ?_⟩
        have h1 := hS _ (hj g hg).2
        rw [bb_re_at s (by omega) _ (hj g hg).1, bb_one (by omega)] at h1
        exact of_decide_eq_true (Bool.and_eq_true _ _ |>.mp h1).2
      have edm : upd dm (d + 1) r (d + 1) = r := pk_us
      refine IH (d + 1) (st + 1) n (fun i => S i ∨ (bb_Sol G I A B D C (bb_dg G i) ∧ bb_In G s (bb_dg G i) ∧ bb_dg G i g < b)) fC fM cw _ cg _ ?_ (by omega) (by omega) (by omega) ?_ ?_ ha ?_ ?_
      · rw [edm]
        have := bb_oc_lt hG hg hb3 rfl hop hS
        omega
      · rw [edm]; exact wr
      · rw [edm]; exact hC
      · rw [edm]
        intro i j hi hj hSi hIn
        obtain ⟨hIs, hjb⟩ := hdig j hIn
        rcases hSi with z | ⟨_, z2, z3⟩
        · exact hord i j hi hj z hIs
        · refine bb_lex hi hj hg (fun e he => ?_) (by omega)
          have q1 := bb_sg_eq (hsg e he) (z2 e (by omega)).1 (z2 e (by omega)).2
          have q2 := bb_sg_eq (hsg e he) (hIs e (by omega)).1 (hIs e (by omega)).2
          omega
      · rw [edm]
        intro n' st' fC' fM' cw' dm' cg' nb' hst' hn' ha' hag'
        rw [pk_m1]
        obtain ⟨g1, g2, g3⟩ := hag' d (by omega)
        refine ih (b + 1) st' n' fC' fM' cw' dm' cg' nb' (by omega) (by omega) hn' ?_ ?_ ?_ ?_ ?_
        · rw [g1, pk_un (by omega), ed]
        · rw [g2, ec]
        · rw [g3, pk_us]
        · intro e he
          obtain ⟨f1, f2, f3⟩ := hag' e (by omega)
          rw [f1, f2, f3, pk_un (by omega), pk_un (by omega)]
          exact hag e he
        · refine bb_Acc_eq (fun i _ => ⟨?_, ?_⟩) ha'
          · rintro ((z | ⟨z1, z2, z3⟩) | ⟨z1, z2⟩)
            · exact Or.inl z
            · exact Or.inr ⟨z1, z2, by omega⟩
            · obtain ⟨y1, y2⟩ := hdig i z2
              exact Or.inr ⟨z1, y1, by omega⟩
          · rintro (z | ⟨z1, z2, z3⟩)
            · exact Or.inl (Or.inl z)
            · by_cases e : bb_dg G i g = b
              · exact Or.inr ⟨z1, hP _ z1 z2 e⟩
              · exact Or.inl (Or.inr ⟨z1, z2, by omega⟩)
theorem bb_enter {d st n M : Nat} {S : Nat → Prop} {fC fM : Int32} {cw dm cg nb : Nat → Int32} (pz : bb_PZ G I A B D C nu ce ne di cr)
    (hd : d ≤ 8) (hst : st + 1 ≤ M) (hM : M ≤ 60000) (hn : 60000 < n + 1 + st) (w : bb_WF G (dm d)) (hC : bb_Chk G I A B D C (dm d)) (ha : bb_Acc G S fC fM cw)
    (hord : ∀ i j, i < 3 ^ G → j < 3 ^ G → S i → bb_In G (dm d) (bb_dg G j) → i < j)
    (K : ∀ (n' st' : Nat) (fC' fM' : Int32) (cw' dm' cg' nb' : Nat → Int32), st' ≤ M → 60000 < n' + st' →
      bb_Acc G (fun i => S i ∨ (bb_Sol G I A B D C (bb_dg G i) ∧ bb_In G (dm d) (bb_dg G i))) fC' fM' cw' → (∀ e, e < d → dm' e = dm e ∧ cg' e = cg e ∧ nb' e = nb e) →
      wX_solve_86 post n' (nI d + (-1)) 0 (nI st') fI (nI I) (nI G) fS fC' fM' nu ce ix ne di be cr cw' dm' cg' nb')
    (Ko : ∀ g, g < G → (∀ h, h < g → bb_sg (dm d) h = true) → bb_sg (dm d) g = false → wX_solve_86 post n (nI d) 0 (nI (st + 1)) fI (nI I) (nI G) fS fC fM nu ce ix ne di be cr cw dm (upd cg d (nI g)) (upd nb d 0)) :
    wX_solve_86 post (n + 1) (nI d) 1 (nI st) fI (nI I) (nI G) fS fC fM nu ce ix ne di be cr cw dm cg nb := by
  have hG := pz.1
  refine br_f (nI_ge (b := 60000) (by omega) (by omega)) (br_f (nI_pos (by omega)) (br_f (by decide) (And.intro (vp_in_nI (by omega) (by omega)) ?_)))
  rw [nI_clamp (show d < 2 ^ 31 by omega)]
  refine bb_wfo hG (fun g hg hsg hop => ⟨vp_in_nI (by omega) (by omega), nm_e ⟨vp_in_nI (by omega) (by omega), nm_e ⟨vp_in_nI (by omega) (by omega), ?_⟩⟩⟩) (fun hall => ⟨vp_in_nI (by omega) (by omega), nm_e ⟨vp_in_nI (by omega) (by omega), nm_e ⟨vp_in_nI (by omega) (by omega), ?_⟩⟩⟩)
  · rw [pk_us]
    exact br_t (nI_pos' (by omega)) (nm_r (nI_1 _) (Ko g hg hsg hop))
  · rw [pk_us]
    refine br_f (by decide) ⟨vp_in_nI (by omega) (by omega), bb_wkp hG (fun cw' hcw => nm_e (nm_r (nI_1 _) (K n (st + 1) _ _ cw' dm _ _ (by omega) (by omega) ?_ ?_)))⟩
    · have h3 : ∀ g, g < G → bb_lo (dm d) g < 3 := fun g _ => by have := bb_lo2 (dm d) g; omega
      have hk := bb_en_lt G h3
      have hdg : ∀ g, g < G → bb_dg G (bb_en (bb_lo (dm d)) G) g = bb_lo (dm d) g := fun g hg => bb_dg_of h3 hg
      have hIn := bb_leaf_in w hdg
      refine bb_Acc_eq (fun i hi => ⟨?_, ?_⟩) (bb_Acc_add hG ha hk (fun j hj hSj => hord j _ hj hk hSj hIn) (fun g hg => (hdg g hg).symm) hcw)
      · rintro (z | z)
        · exact Or.inl z
        · rw [z]
          exact Or.inr ⟨bb_Sol_ext (fun g hg => (hdg g hg).symm) (bb_leaf w hC hall), hIn⟩
      · rintro (z | ⟨z1, z2⟩)
        · exact Or.inl z
        · refine Or.inr (bb_dg_inj hi hk (fun g hg => ?_))
          rw [bb_leaf_one hall z2 g hg, hdg g hg]
    · intro e he
      rw [pk_un (by omega), pk_un (by omega)]
      exact ⟨rfl, rfl, rfl⟩
theorem bb_search (pz : bb_PZ G I A B D C nu ce ne di cr) : ∀ k, bb_SC post G I A B D C fI fS nu ce ix ne di be cr k := by
  have hG := pz.1
  intro k
  induction k with
  | zero =>
    intro d st n S fC fM cw dm cg nb hoc hd hst hn w hC ha hord K
    have hT : bb_T 0 = 1 := rfl
    obtain ⟨n, rfl⟩ : ∃ k, n = k + 1 := ⟨n - 1, by omega⟩
    refine bb_enter pz (by omega) (by omega) hst hn w hC ha hord K (fun g hg hsg hop => ?_)
    have h0 : 0 < bb_oc G (dm d) := by
      unfold bb_oc
      have h1 := bb_rk_lt (p := fun g => !bb_sg (dm d) g) hg (by show (!bb_sg (dm d) g) = true; rw [hop]; rfl)
      omega
    omega
  | succ k ih =>
    intro d st n S fC fM cw dm cg nb hoc hd hst hn w hC ha hord K
    have hT : bb_T (k + 1) = 5 + 3 * bb_T k := rfl
    obtain ⟨n, rfl⟩ : ∃ k, n = k + 1 := ⟨n - 1, by omega⟩
    refine bb_enter pz (by omega) (by omega) hst hn w hC ha hord K (fun g hg hsg hop => ?_)
    refine bb_phase (M := st + bb_T (k + 1)) (S := S) (s := dm d) (dm0 := dm) (cg0 := cg) (nb0 := nb) pz ih hd hg w hsg hop hoc hst hord K 3 0 (st + 1) n fC fM cw dm _ _ (by omega) (by omega) (by omega) rfl pk_us ?_ ?_ ?_
    · rw [pk_us]; rfl
    · intro e he
      rw [pk_un (by omega), pk_un (by omega)]
      exact ⟨rfl, rfl, rfl⟩
    · refine bb_Acc_eq (fun i _ => ⟨Or.inl, ?_⟩) ha
      rintro (z | ⟨_, _, z⟩)
      · exact z
      · exact absurd z (Nat.not_lt_zero _)
end
/-! X: solve -/
theorem bb_all2 : ∀ k, k < 25 → ∀ i, i < 32 → bt (((1 : Int32) <<< (nI k &&& 31)) - 1) i = decide (i < k) := by decide +kernel
section
variable {fI fL fG fS fC fM : Int32} {nu ce ix ne di : Nat → Int32} {be : Nat → Int64} {cr cw dm cg nb : Nat → Int32} {G I : Nat} {A B D : Nat → Nat} {C : Nat → Nat → Bool}
theorem bb_so25 {post : SX → Prop} (pz : bb_PZ G I A B D C nu ce ne di cr)
    (K : ∀ fC fM cw dm cg nb, bb_Acc G (fun i => bb_Sol G I A B D C (bb_dg G i)) fC fM cw → post (fI, nI I, nI G, 1, fC, fM, nu, ce, ix, ne, di, be, cr, cw, dm, cg, nb)) :
    ∀ d k n cw, k + d = 24 → d < n → (∀ j, j < k → cw j = 0) → wX_solve_25 post fI (nI I) (nI G) 1 0 0 n (nI k) nu ce ix ne di be cr cw dm cg nb := by
  have hG := pz.1
  intro d
  induction d with
  | zero =>
    intro k n cw hd hn hc
    obtain ⟨n, rfl⟩ : ∃ k, n = k + 1 := ⟨n - 1, by omega⟩
    obtain rfl : k = 24 := by omega
    refine br_t (nI_le (a := 24) (b := 24) (by omega) (by omega)) ?_
    rw [bb_3g]
    refine nm_e ?_
    have hbt : ∀ i, bt (((1 : Int32) <<< (nI (3 * G) &&& 31)) - 1) i = decide (i < 3 * G) := by
      intro i
      rcases Nat.lt_or_ge i 32 with h | h
      · exact bb_all2 (3 * G) (by omega) i h
      · rw [b_big h, decide_eq_false (by omega)]
    have hin : ∀ b : Nat → Nat, (∀ g, g < G → b g < 3) → bb_In G (((1 : Int32) <<< (nI (3 * G) &&& 31)) - 1) b := by
      intro b hb g hg
      have := hb g hg
      exact ⟨this, by rw [hbt, decide_eq_true (by omega)]⟩
    have w : bb_WF G (((1 : Int32) <<< (nI (3 * G) &&& 31)) - 1) := by
      refine ⟨fun i hi => by rw [hbt, decide_eq_false (by omega)], fun g hg => Or.inl ?_⟩
      rw [hbt, decide_eq_true (by omega)]
    refine bb_wnr (Sol := bb_Sol G I A B D C) pz (fun _ h => h) w (fun r hr => nm_e ?_)
    rw [pk_us]
    rcases hr with ⟨e, hr⟩ | ⟨wr, hS, hP, hC⟩
    · rw [e]
      refine br_f (by decide) ⟨1, ?_⟩
      refine br_f (nI_ge (a := 0) (b := 60000) (by omega) (by omega)) (br_t (by decide) (K 0 0 cw _ cg nb ?_))
      exact bb_Acc_0 (fun i hi hs => hr _ hs (hin _ (fun g _ => bb_dg3 G i g))) hc hG
    · refine br_t (bb_WF_0 hG wr) ⟨60001, ?_⟩
      have e0 : upd dm 0 r 0 = r := pk_us
      refine bb_search pz 8 0 0 60001 (fun _ => False) 0 0 cw (upd dm 0 r) cg nb ?_ (by omega) (by decide) (by omega) ?_ ?_ ?_ ?_ ?_
      · exact Nat.le_trans (bb_rk_le _ _) hG
      · rw [e0]; exact wr
      · rw [e0]; exact hC
      · exact bb_Acc_0 (fun _ _ h => h) hc hG
      · intro i j _ _ h; exact h.elim
      · rw [e0]
        intro n' st' fC' fM' cw' dm' cg' nb' hst' hn' ha' _
        have hT8 : bb_T 8 = 22961 := by decide
        obtain ⟨n', rfl⟩ : ∃ k, n' = k + 1 := ⟨n' - 1, by omega⟩
        refine br_f (nI_ge (b := 60000) (by omega) (by omega)) (br_t (by decide) (K fC' fM' cw' dm' cg' nb' ?_))
        refine bb_Acc_eq (fun i hi => ⟨?_, fun z => Or.inr ⟨z, hP _ z (hin _ (fun g _ => bb_dg3 G i g))⟩⟩) ha'
        rintro (z | z)
        · exact z.elim
        · exact z.1
  | succ d ih =>
    intro k n cw hd hn hc
    obtain ⟨n, rfl⟩ : ∃ k, n = k + 1 := ⟨n - 1, by omega⟩
    refine br_f (nI_ge (b := 24) (by omega) (by omega)) (And.intro (vp_in_nI (by omega) (by omega)) ?_)
    rw [nI_clamp (show k < 2 ^ 31 by omega)]
    refine nm_e (nm_r (nI_1 _) (ih (k + 1) n _ (by omega) (by omega) (fun j hj => ?_)))
    by_cases e : j = k
    · rw [e, pk_us]
    · rw [pk_un e]; exact hc j (by omega)
theorem bb_wso {post : SX → Prop} (pz : bb_PZ G I A B D C nu ce ne di cr)
    (hs : fS = 0 ∨ bb_Acc G (fun i => bb_Sol G I A B D C (bb_dg G i)) fC fM cw)
    (K : ∀ fS fC fM cw dm cg nb, bb_Acc G (fun i => bb_Sol G I A B D C (bb_dg G i)) fC fM cw → post (fI, nI I, nI G, fS, fC, fM, nu, ce, ix, ne, di, be, cr, cw, dm, cg, nb)) :
    wpX_solve post (fI, nI I, nI G, fS, fC, fM, nu, ce, ix, ne, di, be, cr, cw, dm, cg, nb) := by
  unfold wpX_solve
  refine br_c (fun h => ⟨25, ?_⟩) (fun h => K fS fC fM cw dm cg nb (hs.resolve_left h))
  exact bb_so25 pz (fun fC fM cw dm cg nb ha => K 1 fC fM cw dm cg nb ha) 24 0 25 cw (by omega) (by omega) (fun j hj => absurd hj (Nat.not_lt_zero _))
end
end
section
/-! Y: summed, apart, joined, solves -/
def bb_YZ (G I : Nat) (A B D : Nat → Nat) (C : Nat → Nat → Bool) (nu yn yf : Nat → Int32) (yb : Nat → Int64) : Prop :=
  G ≤ 8 ∧ I ≤ 7 ∧ bb_ok nu ∧
  (∀ g, g < G → ∃ a b, yn g = nI a ∧ yf g = nI b ∧ a < 36 ∧ b < 36 ∧ bb_p nu a = true ∧ bb_p nu b = true ∧ A g = bb_rk (bb_p nu) a ∧ B g = bb_rk (bb_p nu) b) ∧
  (∀ c, c < 36 → bb_p nu c = true → bb_rk (bb_p nu) c < I ∧ nu c = nI (D (bb_rk (bb_p nu) c)) ∧ D (bb_rk (bb_p nu) c) ≤ 8) ∧
  (∀ i, i < I → ∃ c, c < 36 ∧ bb_p nu c = true ∧ bb_rk (bb_p nu) c = i) ∧
  (∀ g h, g < G → h < G → C g h = bb_Cm yb g h)
/-- the bridges hold the assignment b -/
def bb_BR (G : Nat) (br : Nat → Int32) (b : Nat → Nat) : Prop := ∀ g, g < G → br g = nI (b g) ∧ b g < 3
theorem bb_nI0 {m : Nat} (h : m < 2 ^ 31) : nI m ≤ 0 ↔ m = 0 := by
  rw [← nI_0, nI_leI h (by omega)]; omega
theorem bb_nar1 : vp_nar .boolean 1 = 1 := rfl
theorem bb_nar0 : vp_nar .boolean 0 = 0 := rfl
section
variable {nu : Nat → Int32} {yg : Int32} {yn yf : Nat → Int32} {yb : Nat → Int64} {br re : Nat → Int32} {G I : Nat} {A B D : Nat → Nat} {C : Nat → Nat → Bool} {b : Nat → Nat}
theorem bb_ysu12 {post : Int32 → Prop} {J : Int32 → Prop} {c : Nat} (yz : bb_YZ G I A B D C nu yn yf yb) (hb : bb_BR G br b) (hc : c < 36) (hp : bb_p nu c = true)
    (K1 : bb_sm (bb_to A B (bb_rk (bb_p nu) c)) b G = D (bb_rk (bb_p nu) c) → J (nI (c + 1)))
    (K0 : ¬ bb_sm (bb_to A B (bb_rk (bb_p nu) c)) b G = D (bb_rk (bb_p nu) c) → post 0) :
    ∀ d g n, g + d = G → d < n → wY_summed_12 post J (nI c) (nI G) nu yn yf yb br re n (nI (bb_sm (bb_to A B (bb_rk (bb_p nu) c)) b g)) (nI g) := by
  obtain ⟨hG, hI, ok, hE, hD, _, _⟩ := yz
  obtain ⟨hr, hnu, h8⟩ := hD c hc hp
  intro d
  induction d with
  | zero =>
    intro g n hd hn
    obtain ⟨n, rfl⟩ : ∃ k, n = k + 1 := ⟨n - 1, by omega⟩
    obtain rfl : g = G := by omega
    have hs : bb_sm (bb_to A B (bb_rk (bb_p nu) c)) b g ≤ 2 * g := by
      have h1 := bb_sm_2 (t := bb_to A B (bb_rk (bb_p nu) c)) (f := fun _ => 2) g (fun _ => Nat.le_refl _)
      have h2 := bb_sm_le (t := bb_to A B (bb_rk (bb_p nu) c)) (f := b) (f' := fun _ => 2) g (fun k hk => by have := (hb k hk).2; show b k ≤ 2; omega)
      omega
    refine br_t (nI_le (by omega) (by omega)) (And.intro (vp_in_nI hc (by omega)) ?_)
    rw [nI_clamp (show c < 2 ^ 31 by omega), hnu]
    exact ek_if (nI_eq (by omega) (by omega)) (fun e => nm_r (nI_1 _) (K1 e)) K0
  | succ d ih =>
    intro g n hd hn
    obtain ⟨n, rfl⟩ : ∃ k, n = k + 1 := ⟨n - 1, by omega⟩
    obtain ⟨a, a', e1, e2, ha, ha', hpa, hpa', eA, eB⟩ := hE g (by omega)
    have add : bb_to A B (bb_rk (bb_p nu) c) g = true → wY_summed_49 post J (wY_summed_12 post J (nI c) (nI G) nu yn yf yb br re n) (nI c) (nI (bb_sm (bb_to A B (bb_rk (bb_p nu) c)) b g)) (nI g) (nI G) nu yn yf yb br re := by
      intro ht
      refine And.intro (vp_in_nI (by omega) (by omega)) ?_
      rw [nI_clamp (show g < 2 ^ 31 by omega), (hb g (by omega)).1]
      refine nm_r (nI_add _ _) (nm_r (nI_1 _) ?_)
      have h := ih (g + 1) n (by omega) (by omega)
      rw [bb_sm_t ht] at h
      exact h
    refine br_f (nI_ge (by omega) (by omega)) (And.intro (vp_in_nI hc (by omega)) ?_)
    rw [nI_clamp (show c < 2 ^ 31 by omega), nI_clamp (show g < 2 ^ 31 by omega), e1, e2]
    refine ek_if bb_p_iff (fun h => by rw [hp] at h; cases h) (fun _ => ⟨vp_in_nI (by omega) (by omega), pk_eq a c (fun e => add ?_) (fun e => ⟨vp_in_nI (by omega) (by omega), pk_eq a' c (fun e' => add ?_) (fun e' => nm_r (nI_1 _) ?_)⟩)⟩)
    · exact decide_eq_true (Or.inl (by rw [eA, e]))
    · exact decide_eq_true (Or.inr (by rw [eB, e']))
    · have h := ih (g + 1) n (by omega) (by omega)
      have hf : bb_to A B (bb_rk (bb_p nu) c) g = false := by
        refine decide_eq_false ?_
        rintro (z | z)
        · exact e (bb_rk_inj hpa hp (by rw [← eA, z]))
        · exact e' (bb_rk_inj hpa' hp (by rw [← eB, z]))
      rw [bb_sm_f hf] at h
      exact h
theorem bb_ysu2 {post : Int32 → Prop} (yz : bb_YZ G I A B D C nu yn yf yb) (hb : bb_BR G br b)
    (K1 : (∀ i, i < I → bb_sm (bb_to A B i) b G = D i) → post 1) (K0 : ¬ (∀ i, i < I → bb_sm (bb_to A B i) b G = D i) → post 0) :
    ∀ d c n, c + d = 36 → d < n → (∀ j, j < c → bb_p nu j = true → bb_sm (bb_to A B (bb_rk (bb_p nu) j)) b G = D (bb_rk (bb_p nu) j)) → wY_summed_2 post (nI G) nu yn yf yb br re n (nI c) := by
  have hG := yz.1
  intro d
  induction d with
  | zero =>
    intro c n hd hn h
    obtain ⟨n, rfl⟩ : ∃ k, n = k + 1 := ⟨n - 1, by omega⟩
    obtain rfl : c = 36 := by omega
    refine br_t (nI_le (a := 36) (b := 36) (by omega) (by omega)) (K1 (fun i hi => ?_))
    obtain ⟨c, hc, hp, e⟩ := yz.2.2.2.2.2.1 i hi
    rw [← e]; exact h c hc hp
  | succ d ih =>
    intro c n hd hn h
    obtain ⟨n, rfl⟩ : ∃ k, n = k + 1 := ⟨n - 1, by omega⟩
    refine br_f (nI_ge (b := 36) (by omega) (by omega)) ?_
    cases hp : bb_p nu c with
    | true =>
      refine ⟨G + 1, bb_ysu12 yz hb (by omega) hp (fun e => ih (c + 1) n (by omega) (by omega) (fun j hj hpj => ?_)) (fun e => K0 (fun z => e (z _ (yz.2.2.2.2.1 c (by omega) hp).1))) G 0 (G + 1) (by omega) (by omega)⟩
      by_cases ej : j = c
      · rw [ej]; exact e
      · exact h j (by omega) hpj
    | false =>
      have h0 : nu c = 0 := (bb_p_0 yz.2.2.1 (by omega)).mpr hp
      have go : wY_summed_64 post (wY_summed_2 post (nI G) nu yn yf yb br re n) (nI c) 0 (nI G) nu yn yf yb br re := by
        refine And.intro (vp_in_nI (by omega) (by omega)) ?_
        rw [nI_clamp (show c < 2 ^ 31 by omega), h0]
        refine br_t rfl (nm_r (nI_1 _) (ih (c + 1) n (by omega) (by omega) (fun j hj hpj => ?_)))
        by_cases ej : j = c
        · rw [ej, hp] at hpj; cases hpj
        · exact h j (by omega) hpj
      refine ⟨1, br_c (fun _ => go) (fun _ => And.intro (vp_in_nI (by omega) (by omega)) ?_)⟩
      rw [nI_clamp (show c < 2 ^ 31 by omega)]
      exact br_t (bb_p_iff.mpr hp) go
theorem bb_wysu {post : Int32 → Prop} (yz : bb_YZ G I A B D C nu yn yf yb) (hb : bb_BR G br b)
    (K1 : (∀ i, i < I → bb_sm (bb_to A B i) b G = D i) → post 1) (K0 : ¬ (∀ i, i < I → bb_sm (bb_to A B i) b G = D i) → post 0) : wpY_summed post (nI G, nu, yn, yf, yb, br, re) :=
  ⟨37, bb_ysu2 yz hb K1 K0 36 0 37 (by omega) (by omega) (fun j hj => absurd hj (Nat.not_lt_zero _))⟩
/-! apart -/
theorem bb_Cm_comm (m : Nat → Int64) (g h : Nat) : bb_Cm m g h = bb_Cm m h g := by
  unfold bb_Cm
  rw [Int64.and_comm]
  refine decide_eq_decide.mpr ⟨fun z => ⟨fun e => z.1 e.symm, z.2⟩, fun z => ⟨fun e => z.1 e.symm, z.2⟩⟩
theorem bb_yap12 {post : Int32 → Prop} {J : Int32 → Prop} {g : Nat} (yz : bb_YZ G I A B D C nu yn yf yb) (hb : bb_BR G br b) (hg : g < G)
    (K1 : (∀ h, h < g → C g h = true → b g = 0 ∨ b h = 0) → J (nI (g + 1)))
    (K0 : ¬ (∀ h, h < g → C g h = true → b g = 0 ∨ b h = 0) → post 0) :
    ∀ d h n, h + d = g → d < n → (∀ k, k < h → C g k = true → b g = 0 ∨ b k = 0) → wY_apart_12 post J (nI g) (nI G) nu yn yf yb br re n (nI h) := by
  obtain ⟨hG, hI, ok, hE, hD, _, hC⟩ := yz
  intro d
  induction d with
  | zero =>
    intro h n hd hn q
    obtain ⟨n, rfl⟩ : ∃ k, n = k + 1 := ⟨n - 1, by omega⟩
    obtain rfl : h = g := by omega
    exact br_t (nI_le (by omega) (by omega)) (nm_r (nI_1 _) (K1 q))
  | succ d ih =>
    intro h n hd hn q
    obtain ⟨n, rfl⟩ : ∃ k, n = k + 1 := ⟨n - 1, by omega⟩
    have go : (C g h = true → b g = 0 ∨ b h = 0) → wY_apart_12 post J (nI g) (nI G) nu yn yf yb br re n (nI (h + 1)) := by
      intro hh
      refine ih (h + 1) n (by omega) (by omega) (fun k hk hCk => ?_)
      by_cases e : k = h
      · rw [e] at hCk ⊢; exact hh hCk
      · exact q k (by omega) hCk
    obtain ⟨eg, lg⟩ := hb g hg
    obtain ⟨eh, lh⟩ := hb h (by omega)
    refine br_f (nI_ge (by omega) (by omega)) (And.intro (vp_in_nI (by omega) (by omega)) (And.intro (vp_in_nI (by omega) (by omega)) ?_))
    rw [nI_clamp (show g < 2 ^ 31 by omega), nI_clamp (show h < 2 ^ 31 by omega), eg, eh]
    refine br_c (fun z => nm_r (nI_1 _) (go (fun y => ?_))) (fun z => ⟨vp_in_nI (by omega) (by omega), ek_if (bb_nI0 (by omega)) (fun z1 => nm_r (nI_1 _) (go (fun _ => Or.inl z1))) (fun z1 => ⟨vp_in_nI (by omega) (by omega), ek_if (bb_nI0 (by omega)) (fun z2 => nm_r (nI_1 _) (go (fun _ => Or.inr z2))) (fun z2 => K0 (fun y => ?_))⟩)⟩)
    · rw [hC g h hg (by omega)] at y
      exact absurd z (of_decide_eq_true y).2
    · have hCt : C g h = true := by
        rw [hC g h hg (by omega)]
        exact decide_eq_true ⟨by omega, z⟩
      rcases y h (by omega) hCt with w | w
      · exact z1 w
      · exact z2 w
theorem bb_yap2 {post : Int32 → Prop} (yz : bb_YZ G I A B D C nu yn yf yb) (hb : bb_BR G br b)
    (K1 : (∀ g h, g < G → h < G → C g h = true → b g = 0 ∨ b h = 0) → post 1) (K0 : ¬ (∀ g h, g < G → h < G → C g h = true → b g = 0 ∨ b h = 0) → post 0) :
    ∀ d g n, g + d = G → d < n → (∀ k h, k < g → h < k → C k h = true → b k = 0 ∨ b h = 0) → wY_apart_2 post (nI G) nu yn yf yb br re n (nI g) := by
  have hG := yz.1
  intro d
  induction d with
  | zero =>
    intro g n hd hn q
    obtain ⟨n, rfl⟩ : ∃ k, n = k + 1 := ⟨n - 1, by omega⟩
    obtain rfl : g = G := by omega
    refine br_t (nI_le (by omega) (by omega)) (K1 (fun k h hk hh hC => ?_))
    rcases Nat.lt_trichotomy h k with z | z | z
    · exact q k h hk z hC
    · rw [yz.2.2.2.2.2.2 k h hk hh] at hC
      exact absurd z (of_decide_eq_true hC).1
    · rw [yz.2.2.2.2.2.2 k h hk hh, bb_Cm_comm, ← yz.2.2.2.2.2.2 h k hh hk] at hC
      exact (q h k hh z hC).symm
  | succ d ih =>
    intro g n hd hn q
    obtain ⟨n, rfl⟩ : ∃ k, n = k + 1 := ⟨n - 1, by omega⟩
    refine br_f (nI_ge (by omega) (by omega)) ⟨g + 1, bb_yap12 yz hb (by omega) (fun h => ih (g + 1) n (by omega) (by omega) (fun k j hk hj hC => ?_)) (fun h => K0 (fun z => h (fun j hj hC => z g j (by omega) (by omega) hC))) g 0 (g + 1) (by omega) (by omega) (fun j hj => absurd hj (Nat.not_lt_zero _))⟩
    by_cases e : k = g
    · rw [e] at hj hC ⊢; exact h j hj hC
    · exact q k j (by omega) hj hC
theorem bb_wyap {post : Int32 → Prop} (yz : bb_YZ G I A B D C nu yn yf yb) (hb : bb_BR G br b)
    (K1 : (∀ g h, g < G → h < G → C g h = true → b g = 0 ∨ b h = 0) → post 1) (K0 : ¬ (∀ g h, g < G → h < G → C g h = true → b g = 0 ∨ b h = 0) → post 0) : wpY_apart post (nI G, nu, yn, yf, yb, br, re) :=
  ⟨G + 1, bb_yap2 yz hb K1 K0 G 0 (G + 1) (by omega) (by omega) (fun k h hk => absurd hk (Nat.not_lt_zero _))⟩
end
/-! joined -/
/-- the cells reached, by ranks -/
def bb_RC (nu re : Nat → Int32) (R : Nat → Bool) : Prop := ∀ c, c < 36 → bb_p nu c = true → (re c = 0 ↔ R (bb_rk (bb_p nu) c) = false)
section
variable {nu : Nat → Int32} {yg : Int32} {yn yf : Nat → Int32} {yb : Nat → Int64} {br : Nat → Int32} {G I : Nat} {A B D : Nat → Nat} {C : Nat → Nat → Bool} {b : Nat → Nat}
theorem bb_yj144 {post : Int32 → SY → Prop} {re : Nat → Int32} {R : Nat → Bool} (yz : bb_YZ G I A B D C nu yn yf yb) (hR : bb_RC nu re R)
    (K1 : (∀ i, i < I → R i = true) → post 1 (nI G, nu, yn, yf, yb, br, re)) (K0 : ¬ (∀ i, i < I → R i = true) → post 0 (nI G, nu, yn, yf, yb, br, re)) :
    ∀ d c n, c + d = 36 → d < n → (∀ j, j < c → bb_p nu j = true → R (bb_rk (bb_p nu) j) = true) → wY_joined_144 post (nI G) nu yn yf yb br re n (nI c) := by
  intro d
  induction d with
  | zero =>
    intro c n hd hn h
    obtain ⟨n, rfl⟩ : ∃ k, n = k + 1 := ⟨n - 1, by omega⟩
    obtain rfl : c = 36 := by omega
    refine br_t (nI_le (a := 36) (b := 36) (by omega) (by omega)) (K1 (fun i hi => ?_))
    obtain ⟨c, hc, hp, e⟩ := yz.2.2.2.2.2.1 i hi
    rw [← e]; exact h c hc hp
  | succ d ih =>
    intro c n hd hn h
    obtain ⟨n, rfl⟩ : ∃ k, n = k + 1 := ⟨n - 1, by omega⟩
    refine br_f (nI_ge (b := 36) (by omega) (by omega)) (And.intro (vp_in_nI (by omega) (by omega)) ?_)
    rw [nI_clamp (show c < 2 ^ 31 by omega)]
    refine ek_if bb_p_iff (fun hp => nm_r (nI_1 _) (ih (c + 1) n (by omega) (by omega) (fun j hj hpj => ?_))) (fun hp => ⟨vp_in_nI (by omega) (by omega), ek_if (hR c (by omega) (bb_nf hp)) (fun z => K0 (fun y => ?_)) (fun z => nm_r (nI_1 _) (ih (c + 1) n (by omega) (by omega) (fun j hj hpj => ?_)))⟩)
    · by_cases e : j = c
      · rw [e, hp] at hpj; cases hpj
      · exact h j (by omega) hpj
    · rw [y _ (yz.2.2.2.2.1 c (by omega) (bb_nf hp)).1] at z; cases z
    · by_cases e : j = c
      · rw [e]; exact bb_nf z
      · exact h j (by omega) hpj
theorem bb_yj61 {post : Int32 → SY → Prop} {J : Int32 → (Nat → Int32) → (Nat → Int32) → (Nat → Int32) → (Nat → Int64) → (Nat → Int32) → (Nat → Int32) → Prop} {k : Nat} {R : Nat → Bool} (yz : bb_YZ G I A B D C nu yn yf yb) (hb : bb_BR G br b)
    (K : ∀ re, bb_RC nu re (bb_rw A B (fun g => decide (b g ≠ 0)) R G) → J (nI (k + 1)) nu yn yf yb br re) :
    ∀ d g n re, g + d = G → d < n → bb_RC nu re (bb_rw A B (fun g => decide (b g ≠ 0)) R g) → wY_joined_61 post J (nI k) (nI G) n (nI g) nu yn yf yb br re := by
  obtain ⟨hG, hI, ok, hE, hD, _, _⟩ := yz
  intro d
  induction d with
  | zero =>
    intro g n re hd hn h
    obtain ⟨n, rfl⟩ : ∃ k, n = k + 1 := ⟨n - 1, by omega⟩
    obtain rfl : g = G := by omega
    exact br_t (nI_le (by omega) (by omega)) (nm_r (nI_1 _) (K re h))
  | succ d ih =>
    intro g n re hd hn h
    obtain ⟨n, rfl⟩ : ∃ k, n = k + 1 := ⟨n - 1, by omega⟩
    obtain ⟨a, a', e1, e2, ha, ha', hpa, hpa', eA, eB⟩ := hE g (by omega)
    obtain ⟨eb, lb⟩ := hb g (by omega)
    have hRa := h a ha hpa
    have hRb := h a' ha' hpa'
    rw [← eA] at hRa
    rw [← eB] at hRb
    have skip : (decide (b g ≠ 0) && (bb_rw A B (fun g => decide (b g ≠ 0)) R g (A g) || bb_rw A B (fun g => decide (b g ≠ 0)) R g (B g))) = false → wY_joined_61 post J (nI k) (nI G) n (nI (g + 1)) nu yn yf yb br re := by
      intro z
      refine ih (g + 1) n re (by omega) (by omega) (fun c hc hp => ?_)
      rw [h c hc hp]
      show _ ↔ bb_rs A B (fun g => decide (b g ≠ 0)) (bb_rw A B (fun g => decide (b g ≠ 0)) R g) g (bb_rk (bb_p nu) c) = false
      rw [bb_rs_no z]
    have put : (decide (b g ≠ 0) && (bb_rw A B (fun g => decide (b g ≠ 0)) R g (A g) || bb_rw A B (fun g => decide (b g ≠ 0)) R g (B g))) = true → wY_joined_106 post J (wY_joined_61 post J (nI k) (nI G) n) (nI k) (nI g) (nI G) nu yn yf yb br re := by
      intro z
      refine And.intro (vp_in_nI (by omega) (by omega)) ?_
      rw [nI_clamp (show g < 2 ^ 31 by omega), e1, e2, nI_clamp (show a < 2 ^ 31 by omega), nI_clamp (show a' < 2 ^ 31 by omega), bb_nar1]
      refine ⟨vp_in_nI ha (by omega), nm_e ⟨vp_in_nI (by omega) (by omega), vp_in_nI ha' (by omega), nm_e (nm_r (nI_1 _) (ih (g + 1) n _ (by omega) (by omega) (fun c hc hp => ?_)))⟩⟩
      show _ ↔ bb_rs A B (fun g => decide (b g ≠ 0)) (bb_rw A B (fun g => decide (b g ≠ 0)) R g) g (bb_rk (bb_p nu) c) = false
      rw [bb_rs_yes z]
      by_cases c2 : c = a'
      · rw [c2, pk_us, eB, decide_eq_true (show bb_rk (bb_p nu) a' = bb_rk (bb_p nu) a' from rfl), Bool.or_true, Bool.or_true]
        exact ⟨fun y => absurd y (by decide), fun y => absurd y (by decide)⟩
      · rw [pk_un c2]
        by_cases c1 : c = a
        · rw [c1, pk_us, eA, decide_eq_true (show bb_rk (bb_p nu) a = bb_rk (bb_p nu) a from rfl), Bool.true_or, Bool.or_true]
          exact ⟨fun y => absurd y (by decide), fun y => absurd y (by decide)⟩
        · rw [pk_un c1, h c hc hp, decide_eq_false (show ¬ bb_rk (bb_p nu) c = A g from fun y => c1 (bb_rk_inj hp hpa (by rw [y, eA]))), decide_eq_false (show ¬ bb_rk (bb_p nu) c = B g from fun y => c2 (bb_rk_inj hp hpa' (by rw [y, eB]))), Bool.or_false, Bool.or_false]
    refine br_f (nI_ge (by omega) (by omega)) (And.intro (vp_in_nI (by omega) (by omega)) ?_)
    rw [nI_clamp (show g < 2 ^ 31 by omega), eb, e1, e2, nI_clamp (show a < 2 ^ 31 by omega), nI_clamp (show a' < 2 ^ 31 by omega)]
    refine ek_if (bb_nI0 (by omega)) (fun z => nm_r (nI_1 _) (skip ?_)) (fun z => ⟨vp_in_nI (by omega) (by omega), vp_in_nI ha (by omega), ek_if hRa (fun z1 => ⟨vp_in_nI (by omega) (by omega), vp_in_nI ha' (by omega), ek_if hRb (fun z2 => nm_r (nI_1 _) (skip ?_)) (fun z2 => put ?_)⟩) (fun z1 => put ?_)⟩)
    · rw [decide_eq_false (fun y => y z), Bool.false_and]
    · rw [z1, z2]; exact Bool.and_false _
    · rw [decide_eq_true z, bb_nf z2, Bool.or_true]; rfl
    · rw [decide_eq_true z, bb_nf z1]; rfl
theorem bb_yj53 {post : Int32 → SY → Prop} (yz : bb_YZ G I A B D C nu yn yf yb) (hb : bb_BR G br b)
    (K1 : ∀ re, bb_Cn G I A B (fun g => decide (b g ≠ 0)) → post 1 (nI G, nu, yn, yf, yb, br, re)) (K0 : ∀ re, ¬ bb_Cn G I A B (fun g => decide (b g ≠ 0)) → post 0 (nI G, nu, yn, yf, yb, br, re)) :
    ∀ d k n re, k + d = 7 → d < n → bb_RC nu re (bb_rr A B (fun g => decide (b g ≠ 0)) G k) → wY_joined_53 post (nI G) n (nI k) nu yn yf yb br re := by
  have hG := yz.1
  intro d
  induction d with
  | zero =>
    intro k n re hd hn h
    obtain ⟨n, rfl⟩ : ∃ k, n = k + 1 := ⟨n - 1, by omega⟩
    obtain rfl : k = 7 := by omega
    exact br_t (nI_le (a := 7) (b := 7) (by omega) (by omega)) ⟨37, bb_yj144 yz h (K1 re) (K0 re) 36 0 37 (by omega) (by omega) (fun j hj => absurd hj (Nat.not_lt_zero _))⟩
  | succ d ih =>
    intro k n re hd hn h
    obtain ⟨n, rfl⟩ : ∃ k, n = k + 1 := ⟨n - 1, by omega⟩
    exact br_f (nI_ge (b := 7) (by omega) (by omega)) ⟨G + 1, bb_yj61 yz hb (fun re' h' => ih (k + 1) n re' (by omega) (by omega) h') G 0 (G + 1) re (by omega) (by omega) h⟩
theorem bb_yj4 {post : Int32 → SY → Prop} (yz : bb_YZ G I A B D C nu yn yf yb) (hb : bb_BR G br b)
    (K1 : ∀ re, bb_Cn G I A B (fun g => decide (b g ≠ 0)) → post 1 (nI G, nu, yn, yf, yb, br, re)) (K0 : ∀ re, ¬ bb_Cn G I A B (fun g => decide (b g ≠ 0)) → post 0 (nI G, nu, yn, yf, yb, br, re)) :
    ∀ d c n x re, c + d = 36 → d < n → (x = 0 ↔ bb_rk (bb_p nu) c = 0) → (∀ j, j < c → bb_p nu j = true → (re j = 0 ↔ decide (bb_rk (bb_p nu) j = 0) = false)) →
    wY_joined_4 post (nI G) n x (nI c) nu yn yf yb br re := by
  intro d
  induction d with
  | zero =>
    intro c n x re hd hn hx h
    obtain ⟨n, rfl⟩ : ∃ k, n = k + 1 := ⟨n - 1, by omega⟩
    obtain rfl : c = 36 := by omega
    exact br_t (nI_le (a := 36) (b := 36) (by omega) (by omega)) ⟨8, bb_yj53 yz hb K1 K0 7 0 8 re (by omega) (by omega) h⟩
  | succ d ih =>
    intro c n x re hd hn hx h
    obtain ⟨n, rfl⟩ : ∃ k, n = k + 1 := ⟨n - 1, by omega⟩
    have hold : ∀ z, (bb_p nu c = true → (vp_nar .boolean z = 0 ↔ decide (bb_rk (bb_p nu) c = 0) = false)) → ∀ j, j < c + 1 → bb_p nu j = true → (upd re c (vp_nar .boolean z) j = 0 ↔ decide (bb_rk (bb_p nu) j = 0) = false) := by
      intro z hz j hj hpj
      by_cases e : j = c
      · rw [e] at hpj ⊢
        rw [pk_us]; exact hz hpj
      · rw [pk_un e]; exact h j (by omega) hpj
    have go : ∀ z, (bb_p nu c = true → (vp_nar .boolean z = 0 ↔ decide (bb_rk (bb_p nu) c = 0) = false)) → wY_joined_33 post (wY_joined_4 post (nI G) n) x (nI c) z (nI c) (nI G) nu yn yf yb br re := by
      intro z hz
      refine And.intro (vp_in_nI (by omega) (by omega)) ?_
      rw [nI_clamp (show c < 2 ^ 31 by omega)]
      refine nm_e ⟨vp_in_nI (by omega) (by omega), ek_if bb_p_iff (fun hp => nm_r (nI_1 _) (ih (c + 1) n _ _ (by omega) (by omega) ?_ (hold z hz))) (fun hp => nm_r (nI_1 _) (ih (c + 1) n _ _ (by omega) (by omega) ?_ (hold z hz)))⟩
      · rw [bb_rk_f hp]; exact hx
      · rw [bb_rk_t (bb_nf hp)]
        exact ⟨fun y => absurd y (by decide), fun y => by omega⟩
    refine br_f (nI_ge (b := 36) (by omega) (by omega)) (And.intro (vp_in_nI (by omega) (by omega)) ?_)
    rw [nI_clamp (show c < 2 ^ 31 by omega)]
    refine ek_if bb_p_iff (fun hp => go 0 (fun y => by rw [hp] at y; cases y)) (fun hp => ek_if hx (fun h0 => go 1 (fun _ => ?_)) (fun h0 => go 0 (fun _ => ?_)))
    · rw [bb_nar1, decide_eq_true h0]
      exact ⟨fun y => absurd y (by decide), fun y => absurd y (by decide)⟩
    · rw [bb_nar0, decide_eq_false h0]
      exact ⟨fun _ => rfl, fun _ => rfl⟩
theorem bb_wyj {post : Int32 → SY → Prop} {re0 : Nat → Int32} (yz : bb_YZ G I A B D C nu yn yf yb) (hb : bb_BR G br b)
    (K1 : ∀ re, bb_Cn G I A B (fun g => decide (b g ≠ 0)) → post 1 (nI G, nu, yn, yf, yb, br, re)) (K0 : ∀ re, ¬ bb_Cn G I A B (fun g => decide (b g ≠ 0)) → post 0 (nI G, nu, yn, yf, yb, br, re)) :
    wpY_joined post (nI G, nu, yn, yf, yb, br, re0) :=
  ⟨37, bb_yj4 yz hb K1 K0 36 0 37 0 re0 (by omega) (by omega) ⟨fun _ => rfl, fun _ => rfl⟩ (fun j hj => absurd hj (Nat.not_lt_zero _))⟩
theorem bb_wys {post : Int32 → SY → Prop} {re0 : Nat → Int32} (yz : bb_YZ G I A B D C nu yn yf yb) (hb : bb_BR G br b)
    (K1 : ∀ re, bb_Sol G I A B D C b → post 1 (nI G, nu, yn, yf, yb, br, re)) (K0 : ∀ re, ¬ bb_Sol G I A B D C b → post 0 (nI G, nu, yn, yf, yb, br, re)) :
    wpY_solves post (nI G, nu, yn, yf, yb, br, re0) := by
  unfold wpY_solves
  refine bb_wysu yz hb (fun h1 => br_f (by decide) (bb_wyap yz hb (fun h2 => br_f (by decide) (bb_wyj yz hb (fun re h3 => br_f (by decide) (K1 re ⟨h1, h2, h3⟩)) (fun re h3 => br_t rfl (K0 re (fun z => h3 z.2.2))))) (fun h2 => br_t rfl (K0 re0 (fun z => h2 z.2.1))))) (fun h1 => br_t rfl (K0 re0 (fun z => h1 z.1)))
end
end
section
/-! Y: begin, next, count, least -/
section
variable {nu : Nat → Int32} {yg : Int32} {yn yf : Nat → Int32} {yb : Nat → Int64} {re : Nat → Int32} {G I : Nat} {A B D : Nat → Nat} {C : Nat → Nat → Bool}
theorem bb_yb2 {post : SY → Prop} (K : ∀ br, (∀ g, g < 16 → br g = 0) → post (yg, nu, yn, yf, yb, br, re)) :
    ∀ d g n br, g + d = 16 → d < n → (∀ k, k < g → br k = 0) → wY_begin_2 post yg n (nI g) nu yn yf yb br re := by
  intro d
  induction d with
  | zero =>
    intro g n br hd hn h
    obtain ⟨n, rfl⟩ : ∃ k, n = k + 1 := ⟨n - 1, by omega⟩
    obtain rfl : g = 16 := by omega
    exact br_t (nI_le (a := 16) (b := 16) (by omega) (by omega)) (K br h)
  | succ d ih =>
    intro g n br hd hn h
    obtain ⟨n, rfl⟩ : ∃ k, n = k + 1 := ⟨n - 1, by omega⟩
    refine br_f (nI_ge (b := 16) (by omega) (by omega)) (And.intro (vp_in_nI (by omega) (by omega)) ?_)
    rw [nI_clamp (show g < 2 ^ 31 by omega)]
    refine nm_e (nm_r (nI_1 _) (ih (g + 1) n _ (by omega) (by omega) (fun k hk => ?_)))
    by_cases e : k = g
    · rw [e, pk_us]
    · rw [pk_un e]; exact h k (by omega)
theorem bb_wyb {post : SY → Prop} {br0 : Nat → Int32} (K : ∀ br, (∀ g, g < 16 → br g = 0) → post (yg, nu, yn, yf, yb, br, re)) : wpY_begin post (yg, nu, yn, yf, yb, br0, re) :=
  ⟨17, bb_yb2 K 16 0 17 br0 (by omega) (by omega) (fun k hk => absurd hk (Nat.not_lt_zero _))⟩
theorem bb_yn7 {post : Int32 → SY → Prop} {b : Nat → Nat} (hG : G ≤ 8) (h3 : ∀ g, g < G → b g < 3)
    (K0 : ∀ br, bb_en b G + 1 = 3 ^ G → post 0 (nI G, nu, yn, yf, yb, br, re))
    (K1 : ∀ br b', bb_BR G br b' → bb_en b' G = bb_en b G + 1 → post 1 (nI G, nu, yn, yf, yb, br, re)) :
    ∀ m n br, m < n → m ≤ G → (∀ g, g < m → br g = nI (b g)) → (∀ g, m ≤ g → g < G → b g = 2 ∧ br g = 0) → wY_next_7 post (nI G) n (nI m + (-1)) nu yn yf yb br re := by
  intro m
  induction m with
  | zero =>
    intro n br hn hm h1 h2
    obtain ⟨n, rfl⟩ : ∃ k, n = k + 1 := ⟨n - 1, by omega⟩
    refine br_t (by decide) (K0 br ?_)
    have h := bb_en_tail2 (b := b) 0 G (fun g hg hg' => (h2 g hg (by omega)).1)
    rw [Nat.zero_add] at h
    rw [h]
    exact Nat.one_mul _
  | succ m ih =>
    intro n br hn hm h1 h2
    obtain ⟨n, rfl⟩ : ∃ k, n = k + 1 := ⟨n - 1, by omega⟩
    have hbm := h3 m (by omega)
    rw [pk_m1]
    refine br_f (nI_pos (by omega)) (And.intro (vp_in_nI (by omega) (by omega)) ?_)
    rw [nI_clamp (show m < 2 ^ 31 by omega), h1 m (by omega)]
    refine pk_le 2 (b m) (fun hz => ⟨vp_in_nI (by omega) (by omega), nm_e (nm_e (ih n _ (by omega) (by omega) (fun g hg => ?_) (fun g hg hg' => ?_)))⟩) (fun hz => ⟨vp_in_nI (by omega) (by omega), vp_in_nI (by omega) (by omega), nm_e ?_⟩)
    · rw [pk_un (by omega)]; exact h1 g (by omega)
    · by_cases e : g = m
      · rw [e, pk_us]; exact ⟨by omega, rfl⟩
      · rw [pk_un e]; exact h2 g (by omega) hg'
    · rw [nI_1]
      refine K1 _ (fun g => if g < m then b g else if g = m then b m + 1 else 0) (fun g hg => ?_) ?_
      · dsimp only
        by_cases e1 : g < m
        · rw [if_pos e1, pk_un (by omega)]; exact ⟨h1 g (by omega), h3 g hg⟩
        · rw [if_neg e1]
          by_cases e2 : g = m
          · rw [if_pos e2, e2, pk_us]; exact ⟨rfl, by omega⟩
          · rw [if_neg e2, pk_un e2]; exact ⟨(h2 g (by omega) hg).2, by omega⟩
      · have h := bb_next (b := b) (b' := fun g => if g < m then b g else if g = m then b m + 1 else 0) (m := m) (k := G - (m + 1))
          (fun g hg hg' => (h2 g hg (by omega)).1)
          (fun g hg hg' => by show (if g < m then b g else if g = m then b m + 1 else 0) = 0; rw [if_neg (by omega), if_neg (by omega)])
          (fun g hg => by show (if g < m then b g else if g = m then b m + 1 else 0) = b g; rw [if_pos hg])
          (by show (if m < m then b m else if m = m then b m + 1 else 0) = b m + 1; rw [if_neg (by omega), if_pos rfl])
        rw [show m + 1 + (G - (m + 1)) = G by omega] at h
        exact h
theorem bb_wyn {post : Int32 → SY → Prop} {b : Nat → Nat} {br0 : Nat → Int32} (hG : G ≤ 8) (hb : bb_BR G br0 b)
    (K0 : ∀ br, bb_en b G + 1 = 3 ^ G → post 0 (nI G, nu, yn, yf, yb, br, re))
    (K1 : ∀ br b', bb_BR G br b' → bb_en b' G = bb_en b G + 1 → post 1 (nI G, nu, yn, yf, yb, br, re)) : wpY_next post (nI G, nu, yn, yf, yb, br0, re) := by
  unfold wpY_next
  refine nm_r (Int32.sub_eq_add_neg _ _) ⟨G + 1, ?_⟩
  exact bb_yn7 hG (fun g hg => (hb g hg).2) K0 K1 G (G + 1) br0 (by omega) (by omega) (fun g hg => (hb g hg).1) (fun g hg hg' => absurd hg (by omega))
end
theorem bb_Sol_dg {G I : Nat} {A B D : Nat → Nat} {C : Nat → Nat → Bool} {br : Nat → Int32} {b : Nat → Nat} (hb : bb_BR G br b) : bb_Sol G I A B D C b ↔ bb_Sol G I A B D C (bb_dg G (bb_en b G)) :=
  ⟨bb_Sol_ext (fun g hg => (bb_dg_of (fun k hk => (hb k hk).2) hg).symm), bb_Sol_ext (fun g hg => bb_dg_of (fun k hk => (hb k hk).2) hg)⟩
/-- what a count asks of an assignment -/
def bb_Q (G : Nat) (x1 x2 : Int32) (Q : Nat → Prop) : Prop :=
  (x1 < 0 ∧ ∀ i, Q i) ∨ ∃ gap m, x1 = nI gap ∧ gap < G ∧ x2 = nI m ∧ m < 3 ∧ ∀ i, (Q i ↔ bb_dg G i gap = m)
section
variable {nu : Nat → Int32} {yg : Int32} {yn yf : Nat → Int32} {yb : Nat → Int64} {G I : Nat} {A B D : Nat → Nat} {C : Nat → Nat → Bool}
theorem bb_yc_step {post : Int32 → SY → Prop} {x1 x2 : Int32} {Q : Nat → Prop} (yz : bb_YZ G I A B D C nu yn yf yb) (hQ : bb_Q G x1 x2 Q)
    {i n : Nat} {b : Nat → Nat} {br re0 : Nat → Int32} (hi : i < 3 ^ G) (hb : bb_BR G br b) (he : bb_en b G = i)
    (N : ∀ re, wY_count_49 post (wY_count_12 post x1 x2 n) x1 x2 (nI (bb_cn (fun i => bb_Sol G I A B D C (bb_dg G i) ∧ Q i) (i + 1))) (nI i) (nI G) nu yn yf yb br re) :
    wY_count_12 post x1 x2 (n + 1) (nI (bb_cn (fun i => bb_Sol G I A B D C (bb_dg G i) ∧ Q i) i)) 1 (nI i) (nI G) nu yn yf yb br re0 := by
  have hG := yz.1
  have h3G := bb_3G hG
  have hS := bb_Sol_dg (I := I) (A := A) (B := B) (D := D) (C := C) hb
  rw [he] at hS
  have yes : Q i → wY_count_39 post (wY_count_12 post x1 x2 n) x1 x2 (nI (bb_cn (fun i => bb_Sol G I A B D C (bb_dg G i) ∧ Q i) i)) (nI i) (nI G) nu yn yf yb br re0 := by
    intro hq
    unfold wY_count_39
    refine bb_wys yz hb (fun re h => br_f (by decide) (nm_r (nI_1 _) ?_)) (fun re h => br_t rfl ?_)
    · have := N re
      rw [bb_cn_t (q := fun i => bb_Sol G I A B D C (bb_dg G i) ∧ Q i) ⟨hS.mp h, hq⟩] at this
      exact this
    · have := N re
      rw [bb_cn_f (q := fun i => bb_Sol G I A B D C (bb_dg G i) ∧ Q i) (fun z => h (hS.mpr z.1))] at this
      exact this
  refine br_f (nI_ge (b := 6561) (by omega) (by omega)) (br_f (by decide) ?_)
  rcases hQ with ⟨h0, hq⟩ | ⟨gap, m, e1, hgap, e2, hm, hq⟩
  · exact br_t h0 (yes (hq i))
  · have hdg : bb_dg G i gap = b gap := by
      rw [← he]; exact bb_dg_of (fun g hg => (hb g hg).2) hgap
    have h3 := (hb gap hgap).2
    subst e1 e2
    refine br_f (nI_pos (by omega)) (And.intro (vp_in_nI (by omega) (by omega)) ?_)
    rw [nI_clamp (show gap < 2 ^ 31 by omega), (hb gap hgap).1]
    refine pk_eq (b gap) m (fun e => yes ((hq i).mpr (by rw [hdg, e]))) (fun e => ?_)
    have := N re0
    rw [bb_cn_f (q := fun i => bb_Sol G I A B D C (bb_dg G i) ∧ Q i) (fun z => e (by rw [← hdg]; exact (hq i).mp z.2))] at this
    exact this
theorem bb_yc12 {post : Int32 → SY → Prop} {x1 x2 : Int32} {Q : Nat → Prop} (yz : bb_YZ G I A B D C nu yn yf yb) (hQ : bb_Q G x1 x2 Q)
    (K : ∀ br re, post (nI (bb_cn (fun i => bb_Sol G I A B D C (bb_dg G i) ∧ Q i) (3 ^ G))) (nI G, nu, yn, yf, yb, br, re)) :
    ∀ d i n b br re, i + d + 1 = 3 ^ G → d + 1 < n → bb_BR G br b → bb_en b G = i →
    wY_count_12 post x1 x2 n (nI (bb_cn (fun i => bb_Sol G I A B D C (bb_dg G i) ∧ Q i) i)) 1 (nI i) (nI G) nu yn yf yb br re := by
  have hG := yz.1
  have h3G := bb_3G hG
  intro d
  induction d with
  | zero =>
    intro i n b br re hd hn hb he
    obtain ⟨n, rfl⟩ : ∃ k, n = k + 1 := ⟨n - 1, by omega⟩
    refine bb_yc_step yz hQ (by omega) hb he (fun re => ?_)
    refine bb_wyn hG hb (fun br' h => nm_r (nI_1 _) ?_) (fun br' b' hb' h => ?_)
    · obtain ⟨n, rfl⟩ : ∃ k, n = k + 1 := ⟨n - 1, by omega⟩
      have e : i + 1 = 3 ^ G := by omega
      have K' := K br' re
      rw [← e] at K'
      exact br_c (fun _ => K') (fun _ => br_t rfl K')
    · have := bb_en_lt G (fun g hg => (hb' g hg).2)
      omega
  | succ d ih =>
    intro i n b br re hd hn hb he
    obtain ⟨n, rfl⟩ : ∃ k, n = k + 1 := ⟨n - 1, by omega⟩
    refine bb_yc_step yz hQ (by omega) hb he (fun re => ?_)
    refine bb_wyn hG hb (fun br' h => ?_) (fun br' b' hb' h => nm_r (nI_1 _) (ih (i + 1) n b' br' re (by omega) (by omega) hb' (by omega)))
    omega
theorem bb_en_0 {b : Nat → Nat} : ∀ n, (∀ g, g < n → b g = 0) → bb_en b n = 0 := by
  intro n
  induction n with
  | zero => intro _; rfl
  | succ n ih =>
    intro h
    show 3 * bb_en b n + b n = 0
    rw [ih (fun g hg => h g (by omega)), h n (by omega)]
theorem bb_wyc {post : Int32 → SY → Prop} {x1 x2 : Int32} {Q : Nat → Prop} {br0 re0 : Nat → Int32} (yz : bb_YZ G I A B D C nu yn yf yb) (hQ : bb_Q G x1 x2 Q)
    (K : ∀ br re, post (nI (bb_cn (fun i => bb_Sol G I A B D C (bb_dg G i) ∧ Q i) (3 ^ G))) (nI G, nu, yn, yf, yb, br, re)) : wpY_count post (nI G, nu, yn, yf, yb, br0, re0) x1 x2 := by
  have hG := yz.1
  have hp : 0 < 3 ^ G := Nat.pow_pos (by omega)
  unfold wpY_count
  refine bb_wyb (fun br h => ⟨3 ^ G + 1, ?_⟩)
  exact bb_yc12 yz hQ K (3 ^ G - 1) 0 (3 ^ G + 1) (fun _ => 0) br re0 (by omega) (by omega) (fun g hg => ⟨h g (by omega), by show 0 < 3; omega⟩) (bb_en_0 G (fun _ _ => rfl))
theorem bb_yl38 {post : Int32 → SY → Prop} {gap : Nat} (yz : bb_YZ G I A B D C nu yn yf yb) (hg : gap < G)
    (K1 : ∀ br re i, i < 3 ^ G → bb_Sol G I A B D C (bb_dg G i) → (∀ j, j < i → ¬ bb_Sol G I A B D C (bb_dg G j)) → post (nI (bb_dg G i gap)) (nI G, nu, yn, yf, yb, br, re))
    (K0 : ∀ br re, (∀ i, i < 3 ^ G → ¬ bb_Sol G I A B D C (bb_dg G i)) → post (-1) (nI G, nu, yn, yf, yb, br, re)) :
    ∀ d i n b br re, i + d + 1 = 3 ^ G → d + 1 < n → bb_BR G br b → bb_en b G = i → (∀ j, j < i → ¬ bb_Sol G I A B D C (bb_dg G j)) →
    wY_least_38 post (nI gap) n 1 (nI i) (nI G) nu yn yf yb br re := by
  have hG := yz.1
  have h3G := bb_3G hG
  intro d
  induction d with
  | zero =>
    intro i n b br re hd hn hb he hno
    obtain ⟨n, rfl⟩ : ∃ k, n = k + 1 := ⟨n - 1, by omega⟩
    have hS := bb_Sol_dg (I := I) (A := A) (B := B) (D := D) (C := C) hb
    have hdg := bb_dg_of (fun g hg => (hb g hg).2) hg
    rw [he] at hS hdg
    refine br_f (nI_ge (b := 6561) (by omega) (by omega)) (br_f (by decide) (bb_wys yz hb (fun re h => br_f (by decide) (And.intro (vp_in_nI (by omega) (by omega)) ?_)) (fun re h => br_t rfl (bb_wyn hG hb (fun br' h' => nm_r (nI_1 _) ?_) (fun br' b' hb' h' => ?_)))))
    · rw [nI_clamp (show gap < 2 ^ 31 by omega), (hb gap hg).1, ← hdg]
      exact K1 br re i (by omega) (hS.mp h) hno
    · obtain ⟨n, rfl⟩ : ∃ k, n = k + 1 := ⟨n - 1, by omega⟩
      have K' := K0 br' re (fun j hj => by
        by_cases e : j = i
        · rw [e]; exact fun z => h (hS.mpr z)
        · exact hno j (by omega))
      exact br_c (fun _ => K') (fun _ => br_t rfl K')
    · have := bb_en_lt G (fun g hg => (hb' g hg).2)
      omega
  | succ d ih =>
    intro i n b br re hd hn hb he hno
    obtain ⟨n, rfl⟩ : ∃ k, n = k + 1 := ⟨n - 1, by omega⟩
    have hS := bb_Sol_dg (I := I) (A := A) (B := B) (D := D) (C := C) hb
    have hdg := bb_dg_of (fun g hg => (hb g hg).2) hg
    rw [he] at hS hdg
    refine br_f (nI_ge (b := 6561) (by omega) (by omega)) (br_f (by decide) (bb_wys yz hb (fun re h => br_f (by decide) (And.intro (vp_in_nI (by omega) (by omega)) ?_)) (fun re h => br_t rfl (bb_wyn hG hb (fun br' h' => ?_) (fun br' b' hb' h' => nm_r (nI_1 _) (ih (i + 1) n b' br' re (by omega) (by omega) hb' (by omega) (fun j hj => ?_)))))))
    · rw [nI_clamp (show gap < 2 ^ 31 by omega), (hb gap hg).1, ← hdg]
      exact K1 br re i (by omega) (hS.mp h) hno
    · omega
    · by_cases e : j = i
      · rw [e]; exact fun z => h (hS.mpr z)
      · exact hno j (by omega)
end
end
section
/-! the relation -/
def bb_A (nu : Nat → Int32) (g : Nat) : Nat := bb_rk (bb_p nu) (bb_ga (bb_p nu) g)
def bb_B (nu : Nat → Int32) (g : Nat) : Nat := bb_rk (bb_p nu) (bb_gb (bb_p nu) g)
/-- assignment number i solves the board -/
def bb_S (nu : Nat → Int32) (i : Nat) : Prop := bb_Sol (bb_G (bb_p nu)) (bb_rk (bb_p nu) 36) (bb_A nu) (bb_B nu) (bb_D nu) (bb_C (bb_p nu)) (bb_dg (bb_G (bb_p nu)) i)
def bb_R (fI fL fG fS fC fM : Int32) (nu ce ne di cr cw : Nat → Int32) : Prop :=
  bb_ok nu ∧ bb_rk (bb_p nu) 36 ≤ 7 ∧ fI = nI (bb_rk (bb_p nu) 36) ∧ fL = nI (bb_rk (bb_p nu) 36) ∧ fG = nI (bb_G (bb_p nu)) ∧ bb_BX nu ce ne di cr ∧
  (fS = 0 ∨ (bb_G (bb_p nu) ≤ 8 ∧ bb_Acc (bb_G (bb_p nu)) (bb_S nu) fC fM cw))
/-- the relation at the head of a turn -/
def i_Rel (_ : Nat) (u : SX) (v : SY) : Prop := match u, v with
  | (fI, fL, fG, fS, fC, fM, nu, ce, ix, ne, di, be, cr, cw, dm, cg, nb), (_, nu', _, _, _, _, _) => nu' = nu ∧ bb_R fI fL fG fS fC fM nu ce ne di cr cw
theorem i_up {k : Nat} {u : SX} {v : SY} (h : i_Rel k u v) : i_Rel (k + 4) u v := h
theorem bb_el {k : Nat} {u : SX} {v : SY} {P : SX → SY → Prop}
    (h : ∀ (fI fL fG fS fC fM : Int32) (nu ce ix ne di : Nat → Int32) (be : Nat → Int64) (cr cw dm cg nb : Nat → Int32) (yg : Int32) (yn yf : Nat → Int32) (yb : Nat → Int64) (br re : Nat → Int32),
      bb_R fI fL fG fS fC fM nu ce ne di cr cw → P (fI, fL, fG, fS, fC, fM, nu, ce, ix, ne, di, be, cr, cw, dm, cg, nb) (yg, nu, yn, yf, yb, br, re))
    (I : i_Rel k u v) : P u v := by
  obtain ⟨fI, fL, fG, fS, fC, fM, nu, ce, ix, ne, di, be, cr, cw, dm, cg, nb⟩ := u
  obtain ⟨yg, nu', yn, yf, yb, br, re⟩ := v
  obtain ⟨e, hR⟩ := I
  subst e
  exact h _ _ _ _ _ _ _ _ _ _ _ _ _ _ _ _ _ _ _ _ _ _ _ hR
section
variable {fI fL fG fS fC fM : Int32} {nu ce ix ne di : Nat → Int32} {be : Nat → Int64} {cr cw dm cg nb : Nat → Int32} {yg : Int32} {yn yf : Nat → Int32} {yb : Nat → Int64} {br re : Nat → Int32}
theorem bb_mk {k : Nat} (hR : bb_R fI fL fG fS fC fM nu ce ne di cr cw) : i_Rel k (fI, fL, fG, fS, fC, fM, nu, ce, ix, ne, di, be, cr, cw, dm, cg, nb) (yg, nu, yn, yf, yb, br, re) := ⟨rfl, hR⟩
theorem bb_pz (ok : bb_ok nu) (h7 : bb_rk (bb_p nu) 36 ≤ 7) (hG : bb_G (bb_p nu) ≤ 8) (bx : bb_BX nu ce ne di cr) :
    bb_PZ (bb_G (bb_p nu)) (bb_rk (bb_p nu) 36) (bb_A nu) (bb_B nu) (bb_D nu) (bb_C (bb_p nu)) nu ce ne di cr := by
  refine ⟨hG, h7, fun g hg => ?_, fun i hi => ?_, bx.2.2⟩
  · obtain ⟨h1, h2, h3, h4⟩ := bb_g_in hg
    exact ⟨(bx.2.1 g hg).1, (bx.2.1 g hg).2, bb_rk_lt h1 h2, bb_rk_lt h3 h4⟩
  · obtain ⟨c, hc, hp, e⟩ := bb_rk_sur (bb_p nu) 36 i hi
    have hD := bb_D_at ok hc hp
    have hce := bx.1 c hc hp
    rw [e] at hD hce
    exact ⟨c, hc, hce, hD.1, hD.2⟩
theorem bb_yz (ok : bb_ok nu) (h7 : bb_rk (bb_p nu) 36 ≤ 7) (hG : bb_G (bb_p nu) ≤ 8) (hA : bb_AL (fun c => c) (bb_gl (bb_p nu) 36) yn yf yb) :
    bb_YZ (bb_G (bb_p nu)) (bb_rk (bb_p nu) 36) (bb_A nu) (bb_B nu) (bb_D nu) (bb_C (bb_p nu)) nu yn yf yb := by
  refine ⟨hG, h7, ok, fun g hg => ?_, fun c hc hp => ?_, fun i hi => bb_rk_sur (bb_p nu) 36 i hi, fun g h hg hh => ?_⟩
  · obtain ⟨h1, h2, h3, h4⟩ := bb_g_in hg
    obtain ⟨a1, a2, _⟩ := bb_AL_get hA hg
    exact ⟨bb_ga (bb_p nu) g, bb_gb (bb_p nu) g, a1, a2, h1, h3, h2, h4, rfl, rfl⟩
  · have hD := bb_D_at ok hc hp
    exact ⟨bb_rk_lt hc hp, hD.1, hD.2⟩
  · unfold bb_C bb_Cm
    rw [(bb_AL_get hA hg).2.2, (bb_AL_get hA hh).2.2]
end
theorem bb_rk_0 {p : Nat → Bool} (h : ∀ c, p c = false) : ∀ n, bb_rk p n = 0 := by
  intro n
  induction n with
  | zero => rfl
  | succ n ih => rw [bb_rk_f (h n), ih]
theorem bb_rk_one {p q : Nat → Bool} {z : Nat} (h : ∀ j, j ≠ z → q j = p j) (hp : p z = false) (hq : q z = true) : ∀ n, bb_rk q n = bb_rk p n + (if z < n then 1 else 0) := by
  intro n
  induction n with
  | zero => rw [if_neg (Nat.not_lt_zero _)]; rfl
  | succ n ih =>
    by_cases e : z = n
    · rw [← e] at ih ⊢
      rw [bb_rk_t hq, bb_rk_f hp, ih, if_neg (Nat.lt_irrefl _), if_pos (Nat.lt_succ_self _)]
    · have e2 : q n = p n := h n (fun y => e y.symm)
      have e3 : (if z < n + 1 then 1 else 0) = (if z < n then 1 else 0) := by
        by_cases y : z < n
        · rw [if_pos y, if_pos (by omega)]
        · rw [if_neg y, if_neg (by omega)]
      rw [e3]
      cases hpn : p n with
      | true => rw [bb_rk_t hpn, bb_rk_t (e2.trans hpn), ih]; omega
      | false => rw [bb_rk_f hpn, bb_rk_f (e2.trans hpn), ih]
theorem bb_p_upd (nu : Nat → Int32) (z : Nat) (x : Int32) : ∀ j, j ≠ z → bb_p (upd nu z x) j = bb_p nu j := by
  intro j hj
  unfold bb_p
  rw [pk_un hj]
theorem bb_ok_upd {nu : Nat → Int32} (ok : bb_ok nu) {z m : Nat} (hm : m ≤ 8) : bb_ok (upd nu z (nI m)) := by
  intro c hc
  by_cases e : c = z
  · rw [e, pk_us]; exact ⟨m, hm, rfl⟩
  · rw [pk_un e]; exact ok c hc
theorem bb_p_at (nu : Nat → Int32) (z : Nat) {m : Nat} (hm : m ≤ 8) : bb_p (upd nu z (nI m)) z = decide (0 < m) := by
  unfold bb_p
  rw [pk_us, ← nI_0]
  exact decide_eq_decide.mpr (nI_ltI (by omega) (by omega))
/-- one more island -/
theorem bb_rk_new {nu : Nat → Int32} {z m : Nat} (hz : z < 36) (hp : bb_p nu z = false) (h1 : 1 ≤ m) (hm : m ≤ 8) : bb_rk (bb_p (upd nu z (nI m))) 36 = bb_rk (bb_p nu) 36 + 1 := by
  rw [bb_rk_one (bb_p_upd nu z (nI m)) hp (by rw [bb_p_at nu z hm]; exact decide_eq_true h1) 36, if_pos hz]
theorem bb_rk_old {nu : Nat → Int32} {z m : Nat} (hp : bb_p nu z = true) (h1 : 1 ≤ m) (hm : m ≤ 8) : bb_rk (bb_p (upd nu z (nI m))) 36 = bb_rk (bb_p nu) 36 := by
  have e : bb_p (upd nu z (nI m)) = bb_p nu := by
    funext j
    by_cases e : j = z
    · rw [e, bb_p_at nu z hm, hp]; exact decide_eq_true h1
    · exact bb_p_upd nu z _ j e
  rw [e]
theorem bb_rk_less {nu : Nat → Int32} {z : Nat} (hz : z < 36) (hp : bb_p nu z = true) : bb_rk (bb_p nu) 36 = bb_rk (bb_p (upd nu z (nI 0))) 36 + 1 := by
  rw [bb_rk_one (fun j hj => (bb_p_upd nu z (nI 0) j hj).symm) (by rw [bb_p_at nu z (by omega)]; rfl) hp 36, if_pos hz]
theorem bb_56 (x : Int32) : (6 : Int32) ≤ x ↔ 5 < x := by
  rw [Int32.le_iff_toInt_le, Int32.lt_iff_toInt_lt, show (6 : Int32).toInt = 6 by decide, show (5 : Int32).toInt = 5 by decide]
  omega
/-- on the board or off it -/
theorem bb_on (x y : Int32) : (∃ r c, r < 6 ∧ c < 6 ∧ x = nI r ∧ y = nI c ∧ (∀ post : Int32 → Prop, post 1 → wpX_onBoard post x y) ∧ (∀ post : Int32 → Prop, post 0 → wpY_off post x y)) ∨
    ((∀ post : Int32 → Prop, post 0 → wpX_onBoard post x y) ∧ (∀ post : Int32 → Prop, post 1 → wpY_off post x y)) := by
  by_cases h0 : x < 0
  · exact Or.inr ⟨fun _ h => br_t h0 h, fun _ h => br_t h0 h⟩
  · by_cases h6 : (6 : Int32) ≤ x
    · exact Or.inr ⟨fun _ h => br_f h0 (br_t h6 h), fun _ h => br_f h0 (br_t ((bb_56 x).mp h6) h)⟩
    · have h5 : ¬ (5 : Int32) < x := fun z => h6 ((bb_56 x).mpr z)
      by_cases g0 : y < 0
      · exact Or.inr ⟨fun _ h => br_f h0 (br_f h6 (br_t g0 h)), fun _ h => br_f h0 (br_f h5 (br_t g0 h))⟩
      · by_cases g6 : (6 : Int32) ≤ y
        · have g5 : ¬ y ≤ 5 := Int32.not_le.mpr ((bb_56 y).mp g6)
          exact Or.inr ⟨fun _ h => br_f h0 (br_f h6 (br_f g0 (br_t g6 h))), fun _ h => br_f h0 (br_f h5 (br_f g0 (br_f g5 h)))⟩
        · have g5 : y ≤ 5 := Int32.not_lt.mp (fun z => g6 ((bb_56 y).mpr z))
          obtain ⟨r, hr, er⟩ := nI_of h0
          obtain ⟨c, hc, ec⟩ := nI_of g0
          refine Or.inl ⟨r, c, ?_, ?_, er, ec, fun _ h => br_f h0 (br_f h6 (br_f g0 (br_f g6 h))), fun _ h => br_f h0 (br_f h5 (br_f g0 (br_t g5 h)))⟩
          · rw [er] at h6
            apply Classical.byContradiction
            intro z
            exact h6 (nI_le (a := 6) (by omega) hr)
          · rw [ec] at g6
            apply Classical.byContradiction
            intro z
            exact g6 (nI_le (a := 6) (by omega) hc)
theorem bb_cell (r c : Nat) : (6 : Int32) * nI r + nI c = nI (6 * r + c) := by
  rw [show (6 : Int32) * nI r = nI (6 * r) from pk_mul 6 r, nI_add]
end
section
/-! the constructors, place, remove, island, gaps, end -/
theorem i_vc0 : wpX_init (fun u => wpY_init (fun v => i_Rel 0 u v)) := by
  have h0 : ∀ c, bb_p (fun _ => 0) c = false := fun c => decide_eq_false (show ¬ (0 : Int32) < 0 by decide)
  have hr := bb_rk_0 h0 36
  unfold wpX_init
  refine bb_wlist (by omega) (fun ce ix ne di be cr bx => ?_)
  dsimp only [wpY_init]
  refine bb_mk ⟨fun c _ => ⟨0, by omega, rfl⟩, by omega, ?_, rfl, rfl, bx, Or.inl rfl⟩
  rw [hr]; rfl
section
variable {fI fL fG fS fC fM : Int32} {nu ce ix ne di : Nat → Int32} {be : Nat → Int64} {cr cw dm cg nb : Nat → Int32} {yg : Int32} {yn yf : Nat → Int32} {yb : Nat → Int64} {br re : Nat → Int32}
theorem bb_place (hR : bb_R fI fL fG fS fC fM nu ce ne di cr cw) (v1 v2 v3 : Int32) :
    ((∀ post : Int32 → SX → Prop, post (-1) (fI, fL, fG, fS, fC, fM, nu, ce, ix, ne, di, be, cr, cw, dm, cg, nb) → wpX_place post (fI, fL, fG, fS, fC, fM, nu, ce, ix, ne, di, be, cr, cw, dm, cg, nb) v1 v2 v3) ∧ (∀ post : Int32 → SY → Prop, post (-1) (yg, nu, yn, yf, yb, br, re) → wpY_place post (yg, nu, yn, yf, yb, br, re) v1 v2 v3)) ∨
    ∃ nu', bb_ok nu' ∧ bb_rk (bb_p nu') 36 ≤ 7 ∧
      (∀ post : Int32 → SX → Prop, (∀ ce ix ne di be cr, bb_BX nu' ce ne di cr → post (nI (bb_rk (bb_p nu') 36)) (nI (bb_rk (bb_p nu') 36), nI (bb_rk (bb_p nu') 36), nI (bb_G (bb_p nu')), 0, fC, fM, nu', ce, ix, ne, di, be, cr, cw, dm, cg, nb)) → wpX_place post (fI, fL, fG, fS, fC, fM, nu, ce, ix, ne, di, be, cr, cw, dm, cg, nb) v1 v2 v3) ∧
      (∀ post : Int32 → SY → Prop, post (nI (bb_rk (bb_p nu') 36)) (yg, nu', yn, yf, yb, br, re) → wpY_place post (yg, nu, yn, yf, yb, br, re) v1 v2 v3) := by
  obtain ⟨ok, h7, eI, eL, eG, bx, _⟩ := hR
  unfold wpX_place wpY_place
  rcases bb_on v1 v2 with ⟨r, c, hr, hc, e1, e2, hX, hY⟩ | ⟨hX, hY⟩
  · have hz : 6 * r + c < 36 := by omega
    have ecl : (6 : Int32) * v1 + v2 = nI (6 * r + c) := by rw [e1, e2, bb_cell]
    by_cases q1 : v3 < 1
    · exact Or.inl ⟨fun _ h => hX _ (br_f (by decide) (br_t q1 h)), fun _ h => hY _ (br_t rfl (br_t q1 h))⟩
    · by_cases q8 : v3 ≤ 8
      · obtain ⟨m, hm, em⟩ := nI_of2 (M := 8) (n := 8) (by decide) (fun z => q1 (Int32.lt_trans z (by decide))) q8
        have h1 : 1 ≤ m := by
          apply Classical.byContradiction
          intro z
          apply q1
          rw [em, show m = 0 by omega]; decide
        have tail : ∀ {fI : Int32}, bb_rk (bb_p (upd nu (6 * r + c) (nI m))) 36 ≤ 7 → fI = nI (bb_rk (bb_p (upd nu (6 * r + c) (nI m))) 36) → ∀ post : Int32 → SX → Prop,
            (∀ ce ix ne di be cr, bb_BX (upd nu (6 * r + c) (nI m)) ce ne di cr → post (nI (bb_rk (bb_p (upd nu (6 * r + c) (nI m))) 36)) (nI (bb_rk (bb_p (upd nu (6 * r + c) (nI m))) 36), nI (bb_rk (bb_p (upd nu (6 * r + c) (nI m))) 36), nI (bb_G (bb_p (upd nu (6 * r + c) (nI m)))), 0, fC, fM, upd nu (6 * r + c) (nI m), ce, ix, ne, di, be, cr, cw, dm, cg, nb)) →
            wX_place_60 post v3 (nI (6 * r + c)) fI fL fG fS fC fM nu ce ix ne di be cr cw dm cg nb := by
          intro fI h7' e post K
          refine And.intro (vp_in_nI hz (by omega)) ?_
          rw [nI_clamp (show 6 * r + c < 2 ^ 31 by omega), em]
          refine nm_e (bb_wlist h7' (fun ce ix ne di be cr bx => ?_))
          rw [e]
          exact K ce ix ne di be cr bx
        have ytail : ∀ post : Int32 → SY → Prop, post (nI (bb_rk (bb_p (upd nu (6 * r + c) (nI m))) 36)) (yg, upd nu (6 * r + c) (nI m), yn, yf, yb, br, re) → wY_place_46 post v1 v2 v3 yg nu yn yf yb br re := by
          intro post K
          unfold wY_place_46
          rw [ecl, nI_clamp (show 6 * r + c < 2 ^ 31 by omega), em]
          exact ⟨vp_in_nI hz (by omega), nm_e (bb_wheld K)⟩
        cases hp : bb_p nu (6 * r + c) with
        | false =>
          have hn : nu (6 * r + c) = 0 := (bb_p_0 ok hz).mpr hp
          have hnew := bb_rk_new hz hp h1 hm
          by_cases q7 : bb_rk (bb_p nu) 36 < 7
          · refine Or.inr ⟨upd nu (6 * r + c) (nI m), bb_ok_upd ok hm, by omega, fun post K => ?_, fun post K => ?_⟩
            · refine hX _ (br_f (by decide) (br_f q1 (br_t q8 (nm_r ecl ⟨vp_in_nI hz (by omega), ?_⟩))))
              rw [nI_clamp (show 6 * r + c < 2 ^ 31 by omega), eI]
              refine br_t hn (br_t (nI_lt (b := 7) q7 (by omega)) (nm_r (nI_1 _) ?_))
              exact tail (by omega) (by rw [hnew]) post K
            · refine hY _ (br_t rfl (br_f q1 (br_t q8 ?_)))
              rw [ecl, nI_clamp (show 6 * r + c < 2 ^ 31 by omega)]
              refine ⟨vp_in_nI hz (by omega), br_t hn (bb_wheld (br_f ?_ (ytail post K)))⟩
              intro z
              have := (nI_eq (a := bb_rk (bb_p nu) 36) (b := 7) (by omega) (by omega)).mp z
              omega
          · refine Or.inl ⟨fun post K => ?_, fun post K => ?_⟩
            · refine hX _ (br_f (by decide) (br_f q1 (br_t q8 (nm_r ecl ⟨vp_in_nI hz (by omega), ?_⟩))))
              rw [nI_clamp (show 6 * r + c < 2 ^ 31 by omega)]
              refine br_t hn (br_f ?_ K)
              rw [eI]
              exact nI_nlt (b := 7) (by omega) (by omega)
            · refine hY _ (br_t rfl (br_f q1 (br_t q8 ?_)))
              rw [ecl, nI_clamp (show 6 * r + c < 2 ^ 31 by omega)]
              refine ⟨vp_in_nI hz (by omega), br_t hn (bb_wheld (br_t ?_ K))⟩
              exact congrArg nI (show bb_rk (bb_p nu) 36 = 7 by omega)
        | true =>
          have hn : ¬ nu (6 * r + c) = 0 := fun z => by rw [(bb_p_0 ok hz).mp z] at hp; cases hp
          have hold := bb_rk_old hp h1 hm
          refine Or.inr ⟨upd nu (6 * r + c) (nI m), bb_ok_upd ok hm, by omega, fun post K => ?_, fun post K => ?_⟩
          · refine hX _ (br_f (by decide) (br_f q1 (br_t q8 (nm_r ecl ⟨vp_in_nI hz (by omega), ?_⟩))))
            rw [nI_clamp (show 6 * r + c < 2 ^ 31 by omega)]
            refine br_f hn ?_
            exact tail (by omega) (by rw [hold, eI]) post K
          · refine hY _ (br_t rfl (br_f q1 (br_t q8 ?_)))
            rw [ecl, nI_clamp (show 6 * r + c < 2 ^ 31 by omega)]
            exact ⟨vp_in_nI hz (by omega), br_f hn (ytail post K)⟩
      · exact Or.inl ⟨fun _ h => hX _ (br_f (by decide) (br_f q1 (br_f q8 h))), fun _ h => hY _ (br_t rfl (br_f q1 (br_f q8 h)))⟩
  · exact Or.inl ⟨fun _ h => hX _ (br_t rfl h), fun _ h => hY _ (br_f (by decide) h)⟩
theorem bb_remove (hR : bb_R fI fL fG fS fC fM nu ce ne di cr cw) (v1 v2 : Int32) :
    ((∀ post : Int32 → SX → Prop, post (-1) (fI, fL, fG, fS, fC, fM, nu, ce, ix, ne, di, be, cr, cw, dm, cg, nb) → wpX_remove post (fI, fL, fG, fS, fC, fM, nu, ce, ix, ne, di, be, cr, cw, dm, cg, nb) v1 v2) ∧ (∀ post : Int32 → SY → Prop, post (-1) (yg, nu, yn, yf, yb, br, re) → wpY_remove post (yg, nu, yn, yf, yb, br, re) v1 v2)) ∨
    ∃ nu', bb_ok nu' ∧ bb_rk (bb_p nu') 36 ≤ 7 ∧
      (∀ post : Int32 → SX → Prop, (∀ ce ix ne di be cr, bb_BX nu' ce ne di cr → post (nI (bb_rk (bb_p nu') 36)) (nI (bb_rk (bb_p nu') 36), nI (bb_rk (bb_p nu') 36), nI (bb_G (bb_p nu')), 0, fC, fM, nu', ce, ix, ne, di, be, cr, cw, dm, cg, nb)) → wpX_remove post (fI, fL, fG, fS, fC, fM, nu, ce, ix, ne, di, be, cr, cw, dm, cg, nb) v1 v2) ∧
      (∀ post : Int32 → SY → Prop, post (nI (bb_rk (bb_p nu') 36)) (yg, nu', yn, yf, yb, br, re) → wpY_remove post (yg, nu, yn, yf, yb, br, re) v1 v2) := by
  obtain ⟨ok, h7, eI, eL, eG, bx, _⟩ := hR
  unfold wpX_remove wpY_remove
  rcases bb_on v1 v2 with ⟨r, c, hr, hc, e1, e2, hX, hY⟩ | ⟨hX, hY⟩
  · have hz : 6 * r + c < 36 := by omega
    have ecl : (6 : Int32) * v1 + v2 = nI (6 * r + c) := by rw [e1, e2, bb_cell]
    rw [ecl, nI_clamp (show 6 * r + c < 2 ^ 31 by omega)]
    cases hp : bb_p nu (6 * r + c) with
    | false =>
      have hn : nu (6 * r + c) = 0 := (bb_p_0 ok hz).mpr hp
      exact Or.inl ⟨fun _ h => hX _ (br_f (by decide) ⟨vp_in_nI hz (by omega), br_t hn h⟩), fun _ h => hY _ (br_t rfl ⟨vp_in_nI hz (by omega), br_t hn h⟩)⟩
    | true =>
      have hn : ¬ nu (6 * r + c) = 0 := fun z => by rw [(bb_p_0 ok hz).mp z] at hp; cases hp
      have hless := bb_rk_less hz hp
      refine Or.inr ⟨upd nu (6 * r + c) (nI 0), bb_ok_upd ok (by omega), by omega, fun post K => ?_, fun post K => ?_⟩
      · refine hX _ (br_f (by decide) ⟨vp_in_nI hz (by omega), br_f hn ⟨vp_in_nI hz (by omega), nm_e (nm_r (e' := nI (bb_rk (bb_p (upd nu (6 * r + c) (nI 0))) 36)) ?_ ?_)⟩⟩)
        · rw [eI, hless]; exact nI_pred _
        · exact bb_wlist (nu := upd nu (6 * r + c) (nI 0)) (by omega) (fun ce ix ne di be cr bx => K ce ix ne di be cr bx)
      · exact hY _ (br_t rfl ⟨vp_in_nI hz (by omega), br_f hn ⟨vp_in_nI hz (by omega), nm_e (bb_wheld (nu := upd nu (6 * r + c) (nI 0)) K)⟩⟩)
  · exact Or.inl ⟨fun _ h => hX _ (br_t rfl h), fun _ h => hY _ (br_f (by decide) h)⟩
end
theorem i_vc_place {k : Nat} {u : SX} {v : SY} (I : i_Rel k u v) (hk : k + 4 ≤ 2048) (v1 : Int32) (v2 : Int32) (v3 : Int32) : wpX_place (fun r u' => wpY_place (fun r' v' => r' = r ∧ i_Rel (k + 4) u' v') v v1 v2 v3) u v1 v2 v3 := by
  refine bb_el (P := fun u v => wpX_place (fun r u' => wpY_place (fun r' v' => r' = r ∧ i_Rel (k + 4) u' v') v v1 v2 v3) u v1 v2 v3) ?_ I
  intro fI fL fG fS fC fM nu ce ix ne di be cr cw dm cg nb yg yn yf yb br re hR
  rcases bb_place (ix := ix) (be := be) (dm := dm) (cg := cg) (nb := nb) (yg := yg) (yn := yn) (yf := yf) (yb := yb) (br := br) (re := re) hR v1 v2 v3 with ⟨hX, hY⟩ | ⟨nu', ok, h7, hX, hY⟩
  · exact hX _ (hY _ ⟨rfl, bb_mk hR⟩)
  · exact hX _ (fun ce ix ne di be cr bx => hY _ ⟨rfl, bb_mk ⟨ok, h7, rfl, rfl, rfl, bx, Or.inl rfl⟩⟩)
theorem i_vc_remove {k : Nat} {u : SX} {v : SY} (I : i_Rel k u v) (hk : k + 4 ≤ 2048) (v1 : Int32) (v2 : Int32) : wpX_remove (fun r u' => wpY_remove (fun r' v' => r' = r ∧ i_Rel (k + 4) u' v') v v1 v2) u v1 v2 := by
  refine bb_el (P := fun u v => wpX_remove (fun r u' => wpY_remove (fun r' v' => r' = r ∧ i_Rel (k + 4) u' v') v v1 v2) u v1 v2) ?_ I
  intro fI fL fG fS fC fM nu ce ix ne di be cr cw dm cg nb yg yn yf yb br re hR
  rcases bb_remove (ix := ix) (be := be) (dm := dm) (cg := cg) (nb := nb) (yg := yg) (yn := yn) (yf := yf) (yb := yb) (br := br) (re := re) hR v1 v2 with ⟨hX, hY⟩ | ⟨nu', ok, h7, hX, hY⟩
  · exact hX _ (hY _ ⟨rfl, bb_mk hR⟩)
  · exact hX _ (fun ce ix ne di be cr bx => hY _ ⟨rfl, bb_mk ⟨ok, h7, rfl, rfl, rfl, bx, Or.inl rfl⟩⟩)
theorem i_vc_island {k : Nat} {u : SX} {v : SY} (I : i_Rel k u v) (hk : k + 4 ≤ 2048) (v1 : Int32) (v2 : Int32) : wpX_island (fun r => wpY_island (fun r' => r' = r ∧ i_Rel (k + 4) u v) v v1 v2) u v1 v2 := by
  refine bb_el (P := fun u v => wpX_island (fun r => wpY_island (fun r' => r' = r ∧ i_Rel (k + 4) u v) v v1 v2) u v1 v2) ?_ I
  intro fI fL fG fS fC fM nu ce ix ne di be cr cw dm cg nb yg yn yf yb br re hR
  unfold wpX_island wpY_island
  rcases bb_on v1 v2 with ⟨r, c, hr, hc, e1, e2, hX, hY⟩ | ⟨hX, hY⟩
  · have hi : vp_in (6 * v1 + v2) 36 := by
      rw [e1, e2, bb_cell]; exact vp_in_nI (by omega) (by omega)
    exact hX _ (br_f (by decide) ⟨hi, hY _ (br_t rfl ⟨hi, rfl, bb_mk hR⟩)⟩)
  · exact hX _ (br_t rfl (hY _ (br_f (by decide) ⟨rfl, bb_mk hR⟩)))
theorem i_vc_gaps {k : Nat} {u : SX} {v : SY} (I : i_Rel k u v) (hk : k + 4 ≤ 2048) : wpX_gaps (fun r => wpY_gaps (fun r' v' => r' = r ∧ i_Rel (k + 4) u v') v) u := by
  refine bb_el (P := fun u v => wpX_gaps (fun r => wpY_gaps (fun r' v' => r' = r ∧ i_Rel (k + 4) u v') v) u) ?_ I
  intro fI fL fG fS fC fM nu ce ix ne di be cr cw dm cg nb yg yn yf yb br re hR
  unfold wpX_gaps wpY_gaps
  exact bb_wsurvey hR.2.1 (fun yn yf yb hA => ⟨hR.2.2.2.2.1.symm, bb_mk hR⟩)
theorem i_vc_end {k : Nat} {u : SX} {v : SY} (I : i_Rel k u v) (hk : k + 4 ≤ 2048) (v1 : Int32) (v2 : Int32) : wpX_end (fun r => wpY_end (fun r' v' => r' = r ∧ i_Rel (k + 4) u v') v v1 (lw_bz v2)) u v1 (lw_bz v2) := by
  refine bb_el (P := fun u v => wpX_end (fun r => wpY_end (fun r' v' => r' = r ∧ i_Rel (k + 4) u v') v v1 (lw_bz v2)) u v1 (lw_bz v2)) ?_ I
  intro fI fL fG fS fC fM nu ce ix ne di be cr cw dm cg nb yg yn yf yb br re hR
  have hl := bb_gl_len (bb_p nu) 36
  have h7 := hR.2.1
  have hG : bb_G (bb_p nu) ≤ 14 := by unfold bb_G; omega
  have eG := hR.2.2.2.2.1
  have bx := hR.2.2.2.2.2.1
  unfold wpX_end wpY_end
  by_cases h0 : v1 < 0
  · exact br_t h0 (bb_wsurvey h7 (fun yn yf yb hA => br_t h0 ⟨rfl, bb_mk hR⟩))
  · obtain ⟨g, hg, rfl⟩ := nI_of h0
    by_cases hgG : g < bb_G (bb_p nu)
    · obtain ⟨h1, h2, h3, h4⟩ := bb_g_in hgG
      obtain ⟨x1, x2⟩ := bx.2.1 g hgG
      have r1 := bb_rk_lt h1 h2
      have r2 := bb_rk_lt h3 h4
      have hlt : nI g < fG := by rw [eG]; exact nI_lt hgG (by omega)
      by_cases hb : lw_bz v2 = 0
      · refine br_f h0 (br_t hlt (br_t hb ⟨vp_in_nI (by omega) (by omega), ?_⟩))
        rw [nI_clamp (show g < 2 ^ 31 by omega), x1]
        refine ⟨vp_in_nI (by omega) (by omega), ?_⟩
        rw [nI_clamp (show bb_rk (bb_p nu) (bb_ga (bb_p nu) g) < 2 ^ 31 by omega), bx.1 _ h1 h2]
        refine bb_wsurvey h7 (fun yn yf yb hA => br_f h0 (br_t (nI_lt hgG (by omega)) (br_t hb ⟨vp_in_nI (by omega) (by omega), ?_, bb_mk hR⟩)))
        exact (bb_AL_get hA hgG).1
      · refine br_f h0 (br_t hlt (br_f hb ⟨vp_in_nI (by omega) (by omega), ?_⟩))
        rw [nI_clamp (show g < 2 ^ 31 by omega), x2]
        refine ⟨vp_in_nI (by omega) (by omega), ?_⟩
        rw [nI_clamp (show bb_rk (bb_p nu) (bb_gb (bb_p nu) g) < 2 ^ 31 by omega), bx.1 _ h3 h4]
        refine bb_wsurvey h7 (fun yn yf yb hA => br_f h0 (br_t (nI_lt hgG (by omega)) (br_f hb ⟨vp_in_nI (by omega) (by omega), ?_, bb_mk hR⟩)))
        exact (bb_AL_get hA hgG).2.1
    · have hlt : ¬ nI g < fG := by rw [eG]; exact nI_nlt (by omega) (by omega)
      exact br_f h0 (br_f hlt (bb_wsurvey h7 (fun yn yf yb hA => br_f h0 (br_f (nI_nlt (by omega) (by omega)) ⟨rfl, bb_mk hR⟩))))
end
section
/-! solutions, least, always, with -/
section
variable {fI fL fG fS fC fM : Int32} {nu ce ix ne di : Nat → Int32} {be : Nat → Int64} {cr cw dm cg nb : Nat → Int32} {yg : Int32} {yn yf : Nat → Int32} {yb : Nat → Int64} {br re : Nat → Int32}
theorem bb_solve {post : SX → Prop} (hR : bb_R fI fL fG fS fC fM nu ce ne di cr cw) (hG : bb_G (bb_p nu) ≤ 8)
    (K : ∀ fS fC fM cw dm cg nb, bb_Acc (bb_G (bb_p nu)) (bb_S nu) fC fM cw → bb_R fI fL fG fS fC fM nu ce ne di cr cw → post (fI, fL, fG, fS, fC, fM, nu, ce, ix, ne, di, be, cr, cw, dm, cg, nb)) : wpX_solve post (fI, fL, fG, fS, fC, fM, nu, ce, ix, ne, di, be, cr, cw, dm, cg, nb) := by
  obtain ⟨ok, h7, eI, eL, eG, bx, hs⟩ := hR
  subst eL eG
  refine bb_wso (bb_pz ok h7 hG bx) ?_ (fun fS fC fM cw dm cg nb ha => K fS fC fM cw dm cg nb ha ⟨ok, h7, eI, rfl, rfl, bx, Or.inr ⟨hG, ha⟩⟩)
  rcases hs with h | h
  · exact Or.inl h
  · exact Or.inr h.2
end
theorem bb_cn_and {q Q : Nat → Prop} (n : Nat) (h : ∀ i, Q i) : bb_cn (fun i => q i ∧ Q i) n = bb_cn q n :=
  bb_cn_eq n (fun i _ => ⟨fun z => z.1, fun z => ⟨z, h i⟩⟩)
theorem i_vc_solutions {k : Nat} {u : SX} {v : SY} (I : i_Rel k u v) (hk : k + 4 ≤ 2048) : wpX_solutions (fun r u' => wpY_solutions (fun r' v' => r' = r ∧ i_Rel (k + 4) u' v') v) u := by
  refine bb_el (P := fun u v => wpX_solutions (fun r u' => wpY_solutions (fun r' v' => r' = r ∧ i_Rel (k + 4) u' v') v) u) ?_ I
  intro fI fL fG fS fC fM nu ce ix ne di be cr cw dm cg nb yg yn yf yb br re hR
  have hl := bb_gl_len (bb_p nu) 36
  have h7 := hR.2.1
  have hG : bb_G (bb_p nu) ≤ 14 := by unfold bb_G; omega
  have eG := hR.2.2.2.2.1
  unfold wpX_solutions wpY_solutions
  by_cases h8 : bb_G (bb_p nu) ≤ 8
  · have hle : fG ≤ 8 := by rw [eG]; exact nI_le (b := 8) h8 (by omega)
    refine br_t hle (bb_solve hR h8 (fun fS fC fM cw dm cg nb ha hR' => ?_))
    refine bb_wsurvey h7 (fun yn yf yb hA => br_t (nI_le (b := 8) h8 (by omega)) ?_)
    refine bb_wyc (Q := fun _ => True) (bb_yz hR.1 h7 h8 hA) (Or.inl ⟨by decide, fun _ => trivial⟩) (fun br re => ⟨?_, bb_mk hR'⟩)
    rw [bb_cn_and _ (fun _ => trivial)]
    exact ha.1.symm
  · have hle : ¬ fG ≤ 8 := by rw [eG]; exact nI_ge (b := bb_G (bb_p nu)) (a := 8) (by omega) (by omega)
    exact br_f hle (bb_wsurvey h7 (fun yn yf yb hA => br_f (nI_ge (a := 8) (by omega) (by omega)) ⟨rfl, bb_mk hR⟩))
section
variable {nu : Nat → Int32} {yg : Int32} {yn yf : Nat → Int32} {yb : Nat → Int64} {br re : Nat → Int32}
theorem bb_yleast {post : Int32 → SY → Prop} {g : Nat} (ok : bb_ok nu) (h7 : bb_rk (bb_p nu) 36 ≤ 7) (h8 : bb_G (bb_p nu) ≤ 8) (hgG : g < bb_G (bb_p nu))
    (K1 : ∀ yn yf yb br re i, i < 3 ^ bb_G (bb_p nu) → bb_S nu i → (∀ j, j < i → ¬ bb_S nu j) → post (nI (bb_dg (bb_G (bb_p nu)) i g)) (nI (bb_G (bb_p nu)), nu, yn, yf, yb, br, re))
    (K0 : ∀ yn yf yb br re, (∀ i, i < 3 ^ bb_G (bb_p nu) → ¬ bb_S nu i) → post (-1) (nI (bb_G (bb_p nu)), nu, yn, yf, yb, br, re)) : wpY_least post (yg, nu, yn, yf, yb, br, re) (nI g) := by
  have hp : 0 < 3 ^ bb_G (bb_p nu) := Nat.pow_pos (by omega)
  unfold wpY_least
  refine bb_wsurvey h7 (fun yn yf yb hA => br_t (nI_le (b := 8) h8 (by omega)) (br_f (nI_pos (by omega)) (br_t (nI_lt hgG (by omega)) (bb_wyb (fun br hbr => ⟨3 ^ bb_G (bb_p nu) + 1, ?_⟩)))))
  exact bb_yl38 (bb_yz ok h7 h8 hA) hgG (fun br re i hi hs hno => K1 yn yf yb br re i hi hs hno) (fun br re hno => K0 yn yf yb br re hno) (3 ^ bb_G (bb_p nu) - 1) 0 (3 ^ bb_G (bb_p nu) + 1) (fun _ => 0) br re (by omega) (by omega) (fun g hg => ⟨hbr g (by omega), by show 0 < 3; omega⟩) (bb_en_0 _ (fun _ _ => rfl)) (fun j hj => absurd hj (Nat.not_lt_zero _))
end
theorem i_vc_least {k : Nat} {u : SX} {v : SY} (I : i_Rel k u v) (hk : k + 4 ≤ 2048) (v1 : Int32) : wpX_least (fun r u' => wpY_least (fun r' v' => r' = r ∧ i_Rel (k + 4) u' v') v v1) u v1 := by
  refine bb_el (P := fun u v => wpX_least (fun r u' => wpY_least (fun r' v' => r' = r ∧ i_Rel (k + 4) u' v') v v1) u v1) ?_ I
  intro fI fL fG fS fC fM nu ce ix ne di be cr cw dm cg nb yg yn yf yb br re hR
  have hl := bb_gl_len (bb_p nu) 36
  have h7 := hR.2.1
  have hG : bb_G (bb_p nu) ≤ 14 := by unfold bb_G; omega
  have eG := hR.2.2.2.2.1
  unfold wpX_least
  by_cases h8 : bb_G (bb_p nu) ≤ 8
  · have hle : fG ≤ 8 := by rw [eG]; exact nI_le (b := 8) h8 (by omega)
    refine br_t hle ?_
    by_cases h0 : v1 < 0
    · refine br_t h0 ?_
      unfold wpY_least
      exact bb_wsurvey h7 (fun yn yf yb hA => br_t (nI_le (b := 8) h8 (by omega)) (br_t h0 ⟨rfl, bb_mk hR⟩))
    · obtain ⟨g, hg, rfl⟩ := nI_of h0
      by_cases hgG : g < bb_G (bb_p nu)
      · have hlt : nI g < fG := by rw [eG]; exact nI_lt hgG (by omega)
        refine br_f h0 (br_t hlt (bb_solve hR h8 (fun fS fC fM cw dm cg nb ha hR' => ?_)))
        have h3 := bb_3G h8
        obtain ⟨a1, _, a3⟩ := ha
        have hcn := bb_cn_le (bb_S nu) (3 ^ bb_G (bb_p nu))
        rcases a3 with a3 | ⟨i, hi, hs, hmin, hlo⟩
        · refine br_t ?_ (bb_yleast hR.1 h7 h8 hgG (fun yn yf yb br re i hi hs _ => absurd hs (a3 i hi)) (fun yn yf yb br re _ => ⟨rfl, bb_mk hR'⟩))
          rw [a1, bb_cn_none _ a3]; rfl
        · refine br_f ?_ (bb_wdom (by omega) (bb_wlow (bb_yleast hR.1 h7 h8 hgG (fun yn yf yb br re j hj hsj hno => ⟨?_, bb_mk hR'⟩) (fun yn yf yb br re hno => absurd hs (hno i hi)))))
          · rw [a1]
            intro z
            exact bb_cn_0 _ ((nI_eq (a := bb_cn (bb_S nu) (3 ^ bb_G (bb_p nu))) (b := 0) (by omega) (by omega)).mp z) i hi hs
          · have hij : i = j := by
              have h1 := hmin j hj hsj
              apply Classical.byContradiction
              intro z
              exact hno i (by omega) hs
            rw [hlo g hgG, hij]
      · have hlt : ¬ nI g < fG := by rw [eG]; exact nI_nlt (by omega) (by omega)
        refine br_f h0 (br_f hlt ?_)
        unfold wpY_least
        exact bb_wsurvey h7 (fun yn yf yb hA => br_t (nI_le (b := 8) h8 (by omega)) (br_f h0 (br_f (nI_nlt (by omega) (by omega)) ⟨rfl, bb_mk hR⟩)))
  · have hle : ¬ fG ≤ 8 := by rw [eG]; exact nI_ge (b := bb_G (bb_p nu)) (a := 8) (by omega) (by omega)
    refine br_f hle ?_
    unfold wpY_least
    exact bb_wsurvey h7 (fun yn yf yb hA => br_f (nI_ge (a := 8) (by omega) (by omega)) ⟨rfl, bb_mk hR⟩)
theorem i_vc_with {k : Nat} {u : SX} {v : SY} (I : i_Rel k u v) (hk : k + 4 ≤ 2048) (v1 : Int32) (v2 : Int32) : wpX_with (fun r u' => wpY_with (fun r' v' => r' = r ∧ i_Rel (k + 4) u' v') v v1 v2) u v1 v2 := by
  refine bb_el (P := fun u v => wpX_with (fun r u' => wpY_with (fun r' v' => r' = r ∧ i_Rel (k + 4) u' v') v v1 v2) u v1 v2) ?_ I
  intro fI fL fG fS fC fM nu ce ix ne di be cr cw dm cg nb yg yn yf yb br re hR
  have hl := bb_gl_len (bb_p nu) 36
  have h7 := hR.2.1
  have hG : bb_G (bb_p nu) ≤ 14 := by unfold bb_G; omega
  have eG := hR.2.2.2.2.1
  unfold wpX_with wpY_with
  by_cases h8 : bb_G (bb_p nu) ≤ 8
  · have hle : fG ≤ 8 := by rw [eG]; exact nI_le (b := 8) h8 (by omega)
    refine br_t hle ?_
    by_cases h0 : v1 < 0
    · exact br_t h0 (bb_wsurvey h7 (fun yn yf yb hA => br_t (nI_le (b := 8) h8 (by omega)) (br_t h0 ⟨rfl, bb_mk hR⟩)))
    · obtain ⟨g, hg, rfl⟩ := nI_of h0
      by_cases hgG : g < bb_G (bb_p nu)
      · have hlt : ¬ fG ≤ nI g := by rw [eG]; exact nI_ge hgG (by omega)
        refine br_f h0 (br_f hlt ?_)
        by_cases q0 : v2 < 0
        · exact br_t q0 (bb_wsurvey h7 (fun yn yf yb hA => br_t (nI_le (b := 8) h8 (by omega)) (br_f h0 (br_f (nI_ge hgG (by omega)) (br_t q0 ⟨rfl, bb_mk hR⟩)))))
        · by_cases q2 : v2 ≤ 2
          · obtain ⟨m, hm, rfl⟩ := nI_of2 (M := 2) (n := 2) (by decide) q0 q2
            refine br_f q0 (br_t q2 (bb_solve hR h8 (fun fS fC fM cw dm cg nb ha hR' => ?_)))
            have e1 : (3 : Int32) * nI g + nI m = nI (3 * g + m) := by rw [bb_3g, nI_add]
            refine And.intro (by rw [e1]; exact vp_in_nI (by omega) (by omega)) ?_
            rw [e1, nI_clamp (show 3 * g + m < 2 ^ 31 by omega), ha.2.1 g m hgG (by omega)]
            refine bb_wsurvey h7 (fun yn yf yb hA => br_t (nI_le (b := 8) h8 (by omega)) (br_f h0 (br_f (nI_ge hgG (by omega)) (br_f q0 (br_t q2 ?_)))))
            exact bb_wyc (Q := fun i => bb_dg (bb_G (bb_p nu)) i g = m) (bb_yz hR.1 h7 h8 hA) (Or.inr ⟨g, m, rfl, hgG, rfl, by omega, fun _ => Iff.rfl⟩) (fun br re => ⟨rfl, bb_mk hR'⟩)
          · exact br_f q0 (br_f q2 (bb_wsurvey h7 (fun yn yf yb hA => br_t (nI_le (b := 8) h8 (by omega)) (br_f h0 (br_f (nI_ge hgG (by omega)) (br_f q0 (br_f q2 ⟨rfl, bb_mk hR⟩)))))))
      · have hlt : fG ≤ nI g := by rw [eG]; exact nI_le (by omega) (by omega)
        exact br_f h0 (br_t hlt (bb_wsurvey h7 (fun yn yf yb hA => br_t (nI_le (b := 8) h8 (by omega)) (br_f h0 (br_t (nI_le (by omega) (by omega)) ⟨rfl, bb_mk hR⟩)))))
  · have hle : ¬ fG ≤ 8 := by rw [eG]; exact nI_ge (b := bb_G (bb_p nu)) (a := 8) (by omega) (by omega)
    exact br_f hle (bb_wsurvey h7 (fun yn yf yb hA => br_f (nI_ge (a := 8) (by omega) (by omega)) ⟨rfl, bb_mk hR⟩))
end
section
/-! always -/
def bb_av (c0 c1 c2 : Nat) : Int32 := if 0 < c0 ∧ c1 + c2 = 0 then 0 else if 0 < c1 ∧ c0 + c2 = 0 then 1 else if 0 < c2 ∧ c0 + c1 = 0 then 2 else -1
theorem bb_sum0 {a b : Nat} (ha : a < 2 ^ 30) (hb : b < 2 ^ 30) : nI a + nI b = 0 ↔ a + b = 0 := by
  rw [nI_add, ← nI_0, nI_eq (by omega) (by omega)]
section
variable {fI fL fG fS fC fM : Int32} {nu ce ix ne di : Nat → Int32} {be : Nat → Int64} {cr cw dm cg nb : Nat → Int32} {yg : Int32} {yn yf : Nat → Int32} {yb : Nat → Int64} {br re : Nat → Int32}
theorem bb_xa_step {post : Int32 → SX → Prop} {g b cb N n : Nat} (hg : g < 8) (hb : b < 3) (hcw : cw (3 * g + b) = nI cb) (hc : cb ≤ N) (hN : N ≤ 6561) (eC : fC = nI N)
    (K1 : 0 < N → cb = N → post (nI b) (fI, fL, fG, fS, fC, fM, nu, ce, ix, ne, di, be, cr, cw, dm, cg, nb)) (K2 : ¬ (0 < N ∧ cb = N) → wX_always_32 post (nI g) fI fL fG fS fC fM nu ce ix ne di be cr cw dm cg nb n (nI (b + 1))) : wX_always_32 post (nI g) fI fL fG fS fC fM nu ce ix ne di be cr cw dm cg nb (n + 1) (nI b) := by
  have e1 : (3 : Int32) * nI g + nI b = nI (3 * g + b) := by rw [bb_3g, nI_add]
  refine br_f (nI_ge (b := 3) hb (by omega)) ?_
  rw [e1, nI_clamp (show 3 * g + b < 2 ^ 31 by omega), hcw]
  refine ek_if (show fC ≤ 0 ↔ N = 0 by rw [eC]; exact bb_nI0 (by omega)) (fun h => nm_r (nI_1 _) (K2 (by omega))) (fun h => ⟨vp_in_nI (by omega) (by omega), ek_if (show nI cb = fC ↔ cb = N by rw [eC]; exact nI_eq (by omega) (by omega)) (fun e => K1 (by omega) e) (fun e => nm_r (nI_1 _) (K2 (fun z => e z.2)))⟩)
theorem bb_xalw {post : Int32 → SX → Prop} {g c0 c1 c2 : Nat} (hg : g < 8) (h0 : cw (3 * g + 0) = nI c0) (h1 : cw (3 * g + 1) = nI c1) (h2 : cw (3 * g + 2) = nI c2) (hN : c0 + c1 + c2 ≤ 6561) (eC : fC = nI (c0 + c1 + c2))
    (K : post (bb_av c0 c1 c2) (fI, fL, fG, fS, fC, fM, nu, ce, ix, ne, di, be, cr, cw, dm, cg, nb)) : wX_always_32 post (nI g) fI fL fG fS fC fM nu ce ix ne di be cr cw dm cg nb 4 0 := by
  unfold bb_av at K
  refine bb_xa_step (b := 0) hg (by omega) h0 (by omega) hN eC (fun p e => ?_) (fun q0 => bb_xa_step (b := 1) hg (by omega) h1 (by omega) hN eC (fun p e => ?_) (fun q1 => bb_xa_step (b := 2) hg (by omega) h2 (by omega) hN eC (fun p e => ?_) (fun q2 => ?_)))
  · rw [if_pos (by omega)] at K; exact K
  · rw [if_neg (by omega), if_pos (by omega)] at K; exact K
  · rw [if_neg (by omega), if_neg (by omega), if_pos (by omega)] at K; exact K
  · rw [if_neg (by omega), if_neg (by omega), if_neg (by omega)] at K
    exact br_t (nI_le (a := 3) (b := 3) (by omega) (by omega)) K
theorem bb_yalw {post : Int32 → SY → Prop} {c0 c1 c2 : Nat} (hN : c0 + c1 + c2 ≤ 6561) (K : post (bb_av c0 c1 c2) (yg, nu, yn, yf, yb, br, re)) :
    ((nI c0 ≤ 0 → (wY_always_65 post (nI c0) (nI c1) (nI c2) yg nu yn yf yb br re)) ∧ (¬ nI c0 ≤ 0 → ((((nI c1 + nI c2) = 0 → (post 0 (yg, nu, yn, yf, yb, br, re))) ∧ (¬ (nI c1 + nI c2) = 0 → (wY_always_65 post (nI c0) (nI c1) (nI c2) yg nu yn yf yb br re)))))) := by
  unfold bb_av at K
  have h78 : ¬ (0 < c0 ∧ c1 + c2 = 0) → ¬ (0 < c1 ∧ c0 + c2 = 0) → wY_always_78 post (nI c0) (nI c1) (nI c2) yg nu yn yf yb br re := by
    intro q0 q1
    rw [if_neg q0, if_neg q1] at K
    refine ek_if (bb_nI0 (by omega)) (fun h => ?_) (fun h => ek_if (bb_sum0 (by omega) (by omega)) (fun e => ?_) (fun e => ?_))
    · rw [if_neg (by omega)] at K; exact K
    · rw [if_pos (by omega)] at K; exact K
    · rw [if_neg (by omega)] at K; exact K
  have h65 : ¬ (0 < c0 ∧ c1 + c2 = 0) → wY_always_65 post (nI c0) (nI c1) (nI c2) yg nu yn yf yb br re := by
    intro q0
    refine ek_if (bb_nI0 (by omega)) (fun h => h78 q0 (by omega)) (fun h => ek_if (bb_sum0 (by omega) (by omega)) (fun e => ?_) (fun e => h78 q0 (fun z => e z.2)))
    rw [if_neg q0, if_pos (by omega)] at K; exact K
  refine ek_if (bb_nI0 (by omega)) (fun h => h65 (by omega)) (fun h => ek_if (bb_sum0 (by omega) (by omega)) (fun e => ?_) (fun e => h65 (fun z => e z.2)))
  rw [if_pos (by omega)] at K; exact K
end
theorem i_vc_always {k : Nat} {u : SX} {v : SY} (I : i_Rel k u v) (hk : k + 4 ≤ 2048) (v1 : Int32) : wpX_always (fun r u' => wpY_always (fun r' v' => r' = r ∧ i_Rel (k + 4) u' v') v v1) u v1 := by
  refine bb_el (P := fun u v => wpX_always (fun r u' => wpY_always (fun r' v' => r' = r ∧ i_Rel (k + 4) u' v') v v1) u v1) ?_ I
  intro fI fL fG fS fC fM nu ce ix ne di be cr cw dm cg nb yg yn yf yb br re hR
  have hl := bb_gl_len (bb_p nu) 36
  have h7 := hR.2.1
  have hG : bb_G (bb_p nu) ≤ 14 := by unfold bb_G; omega
  have eG := hR.2.2.2.2.1
  unfold wpX_always
  by_cases h8 : bb_G (bb_p nu) ≤ 8
  · have hle : fG ≤ 8 := by rw [eG]; exact nI_le (b := 8) h8 (by omega)
    refine br_t hle ?_
    by_cases h0 : v1 < 0
    · refine br_t h0 ?_
      unfold wpY_always
      exact bb_wsurvey h7 (fun yn yf yb hA => br_t (nI_le (b := 8) h8 (by omega)) (br_t h0 ⟨rfl, bb_mk hR⟩))
    · obtain ⟨g, hg, rfl⟩ := nI_of h0
      by_cases hgG : g < bb_G (bb_p nu)
      · have hlt : nI g < fG := by rw [eG]; exact nI_lt hgG (by omega)
        refine br_f h0 (br_t hlt (bb_solve hR h8 (fun fS fC fM cw dm cg nb ha hR' => ⟨4, ?_⟩)))
        have h3 := bb_3G h8
        have hcn := bb_cn_le (bb_S nu) (3 ^ bb_G (bb_p nu))
        have hsum := bb_cn_3 (q := bb_S nu) (f := fun i => bb_dg (bb_G (bb_p nu)) i g) (fun i => bb_dg3 _ i g) (3 ^ bb_G (bb_p nu))
        obtain ⟨a1, a2, _⟩ := ha
        rw [hsum] at a1 hcn
        refine bb_xalw (by omega) (a2 g 0 hgG (by omega)) (a2 g 1 hgG (by omega)) (a2 g 2 hgG (by omega)) (by omega) a1 ?_
        unfold wpY_always
        refine bb_wsurvey h7 (fun yn yf yb hA => br_t (nI_le (b := 8) h8 (by omega)) (br_f h0 (br_t (nI_lt hgG (by omega)) ?_)))
        have yz := bb_yz hR.1 h7 h8 hA
        refine bb_wyc (Q := fun i => bb_dg (bb_G (bb_p nu)) i g = 0) yz (Or.inr ⟨g, 0, rfl, hgG, rfl, by omega, fun _ => Iff.rfl⟩) (fun br re => ?_)
        refine bb_wyc (Q := fun i => bb_dg (bb_G (bb_p nu)) i g = 1) yz (Or.inr ⟨g, 1, rfl, hgG, rfl, by omega, fun _ => Iff.rfl⟩) (fun br re => ?_)
        refine bb_wyc (Q := fun i => bb_dg (bb_G (bb_p nu)) i g = 2) yz (Or.inr ⟨g, 2, rfl, hgG, rfl, by omega, fun _ => Iff.rfl⟩) (fun br re => ?_)
        exact bb_yalw (Nat.le_trans hcn h3) ⟨rfl, bb_mk hR'⟩
      · have hlt : ¬ nI g < fG := by rw [eG]; exact nI_nlt (by omega) (by omega)
        refine br_f h0 (br_f hlt ?_)
        unfold wpY_always
        exact bb_wsurvey h7 (fun yn yf yb hA => br_t (nI_le (b := 8) h8 (by omega)) (br_f h0 (br_f (nI_nlt (by omega) (by omega)) ⟨rfl, bb_mk hR⟩)))
  · have hle : ¬ fG ≤ 8 := by rw [eG]; exact nI_ge (b := bb_G (bb_p nu)) (a := 8) (by omega) (by omega)
    refine br_f hle ?_
    unfold wpY_always
    exact bb_wsurvey h7 (fun yn yf yb hA => br_f (nI_ge (a := 8) (by omega) (by omega)) ⟨rfl, bb_mk hR⟩)
end
