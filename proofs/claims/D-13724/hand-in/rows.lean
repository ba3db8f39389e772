section
/-! bits of an Int32 (rows bt, b_*, s_l of laws/BITS.to-paste, renamed), bytes, one bit -/
def fd_bt (x : Int32) (i : Nat) : Bool := x.toBitVec.getLsbD i
theorem fd_ext {x y : Int32} (h : ∀ i, i < 32 → fd_bt x i = fd_bt y i) : x = y := Int32.toBitVec_inj.mp (BitVec.eq_of_getLsbD_eq (fun i hi => h i hi))
theorem fd_bor (x y : Int32) (i : Nat) : fd_bt (x ||| y) i = (fd_bt x i || fd_bt y i) := by unfold fd_bt; rw [Int32.toBitVec_or, BitVec.getLsbD_or]
theorem fd_band (x y : Int32) (i : Nat) : fd_bt (x &&& y) i = (fd_bt x i && fd_bt y i) := by unfold fd_bt; rw [Int32.toBitVec_and, BitVec.getLsbD_and]
theorem fd_bxor (x y : Int32) (i : Nat) : fd_bt (x ^^^ y) i = (fd_bt x i ^^ fd_bt y i) := by unfold fd_bt; rw [Int32.toBitVec_xor, BitVec.getLsbD_xor]
theorem fd_big {x : Int32} {i : Nat} (h : 32 ≤ i) : fd_bt x i = false := BitVec.getLsbD_of_ge _ _ h
theorem fd_b255 (i : Nat) : fd_bt 255 i = decide (i < 8) := by
  rcases Nat.lt_or_ge i 32 with h | h
  · exact (by decide +kernel : ∀ i, i < 32 → fd_bt 255 i = decide (i < 8)) i h
  · rw [fd_big h, decide_eq_false (by omega)]
theorem fd_b1 (i : Nat) : fd_bt 1 i = decide (i = 0) := by
  rcases Nat.lt_or_ge i 32 with h | h
  · exact (by decide +kernel : ∀ i, i < 32 → fd_bt 1 i = decide (i = 0)) i h
  · rw [fd_big h, decide_eq_false (by omega)]
theorem fd_bm1 : ∀ i, i < 32 → fd_bt (-1) i = true := by decide +kernel
theorem fd_b0 (i : Nat) : fd_bt 0 i = false := BitVec.getLsbD_zero
theorem fd_sl : ∀ n, n < 32 → ((nI n &&& 31).toBitVec.smod 32).toNat = n := by decide +kernel
theorem fd_bshl (n : Nat) (hn : n < 32) (x : Int32) {i : Nat} (hi : i < 32) : fd_bt (x <<< (nI n &&& 31)) i = (decide (n ≤ i) && fd_bt x (i - n)) := by
  unfold fd_bt
  rw [Int32.toBitVec_shiftLeft]
  show (x.toBitVec <<< ((nI n &&& 31).toBitVec.smod 32).toNat).getLsbD i = _
  rw [fd_sl n hn, BitVec.getLsbD_shiftLeft]
  rcases Nat.lt_or_ge i n with h | h
  · simp [h, Nat.not_le.mpr h]
  · simp [hi, h, Nat.not_lt.mpr h]
theorem fd_bshr (n : Nat) (hn : n < 32) (x : Int32) {i : Nat} (hi : i < 32) : fd_bt (x >>> (nI n &&& 31)) i = if n + i < 32 then fd_bt x (n + i) else fd_bt x 31 := by
  unfold fd_bt
  rw [Int32.toBitVec_shiftRight]
  show (x.toBitVec.sshiftRight ((nI n &&& 31).toBitVec.smod 32).toNat).getLsbD i = _
  rw [fd_sl n hn, BitVec.getLsbD_sshiftRight, BitVec.msb_eq_getLsbD_last]
  simp [hi]
/-- the bit as the code reads it -/
theorem fd_get (x : Int32) (i : Nat) (hi : i < 32) : (x >>> (nI i &&& 31)) &&& 1 = if fd_bt x i = true then 1 else 0 := by
  apply fd_ext
  intro j hj
  rw [fd_band, fd_b1]
  by_cases e : j = 0
  · subst e
    rw [fd_bshr i hi x (by omega)]
    simp only [Nat.add_zero, if_pos hi, decide_true, Bool.and_true]
    cases fd_bt x i
    · rw [if_neg (by simp), fd_b0]
    · rw [if_pos rfl, fd_b1]; rfl
  · rw [decide_eq_false e, Bool.and_false]
    cases fd_bt x i
    · rw [if_neg (by simp), fd_b0]
    · rw [if_pos rfl, fd_b1, decide_eq_false e]
theorem fd_get0 {x : Int32} {i : Nat} (hi : i < 32) (h : fd_bt x i = false) : ((x >>> (nI i &&& 31)) &&& 1) = 0 := by
  rw [fd_get x i hi, h, if_neg (by simp)]
theorem fd_get1 {x : Int32} {i : Nat} (hi : i < 32) (h : fd_bt x i = true) : ((x >>> (nI i &&& 31)) &&& 1) = 1 := by
  rw [fd_get x i hi, h, if_pos rfl]
theorem fd_getn {x : Int32} {i : Nat} (hi : i < 32) (h : fd_bt x i = true) : ¬ ((x >>> (nI i &&& 31)) &&& 1) = 0 := by
  rw [fd_get1 hi h]
  decide
theorem fd_getm {x : Int32} {i : Nat} (hi : i < 32) (h : fd_bt x i = false) : ¬ ((x >>> (nI i &&& 31)) &&& 1) = 1 := by
  rw [fd_get0 hi h]
  decide
/-- a branch on a bit -/
theorem fd_br {A B : Prop} {x y : Int32} (i : Nat) (f : fd_bt x i = false → A) (g : fd_bt x i = true → B) (hy : y = nI i := by rfl) (hi : i < 32 := by omega) : (((x >>> (y &&& 31)) &&& 1) = 0 → A) ∧ (¬ ((x >>> (y &&& 31)) &&& 1) = 0 → B) := by
  subst hy
  cases h : fd_bt x i
  · exact br_t (fd_get0 hi h) (f h)
  · exact br_f (fd_getn hi h) (g h)
theorem fd_br1 {A B : Prop} {x y : Int32} (i : Nat) (f : fd_bt x i = true → A) (g : fd_bt x i = false → B) (hy : y = nI i := by rfl) (hi : i < 32 := by omega) : (((x >>> (y &&& 31)) &&& 1) = 1 → A) ∧ (¬ ((x >>> (y &&& 31)) &&& 1) = 1 → B) := by
  subst hy
  cases h : fd_bt x i
  · exact br_f (fd_getm hi h) (g h)
  · exact br_t (fd_get1 hi h) (f h)
/-- a byte -/
def fd_ok (x : Int32) : Prop := ∀ i, 8 ≤ i → fd_bt x i = false
theorem fd_ext8 {x y : Int32} (hx : fd_ok x) (hy : fd_ok y) (h : ∀ i, i < 8 → fd_bt x i = fd_bt y i) : x = y := by
  apply fd_ext
  intro i _
  rcases Nat.lt_or_ge i 8 with z | z
  · exact h i z
  · rw [hx i z, hy i z]
theorem fd_ok0 : fd_ok 0 := fun i _ => fd_b0 i
theorem fd_okx {x y : Int32} (hx : fd_ok x) (hy : fd_ok y) : fd_ok (x ^^^ y) := by
  intro i hi
  rw [fd_bxor, hx i hi, hy i hi]
  rfl
theorem fd_ok255 (x : Int32) : fd_ok (x &&& 255) := by
  intro i hi
  rw [fd_band, fd_b255, decide_eq_false (by omega), Bool.and_false]
theorem fd_okn {n : Nat} (h : n < 256) : fd_ok (nI n) := by
  have e : nI n &&& 255 = nI n := by
    rw [pk_andN (n := n) (by omega) (m := 255) 8 (by decide), Nat.mod_eq_of_lt (by omega)]
  rw [← e]
  exact fd_ok255 _
theorem fd_okE {x : Int32} (h : fd_ok x) : ∃ n : Nat, n < 256 ∧ x = nI n := by
  obtain ⟨j, hj, e⟩ := pk_andE x (m := 255) 8 (by decide)
  refine ⟨j, hj, ?_⟩
  rw [← e]
  apply fd_ext8 h (fd_ok255 x)
  intro i hi
  rw [fd_band, fd_b255, decide_eq_true hi, Bool.and_true]
theorem fd_s16 : ∀ n, n < 256 → (nI n).toInt16.toInt32 = nI n := by decide +kernel
theorem fd_sh {x : Int32} (h : fd_ok x) : x.toInt16.toInt32 = x := by
  obtain ⟨n, hn, rfl⟩ := fd_okE h
  exact fd_s16 n hn
/-- one bit -/
def fd_e (i : Nat) : Int32 := (1 : Int32) <<< (nI i &&& 31)
theorem fd_be {i : Nat} (hi : i < 32) (j : Nat) : fd_bt (fd_e i) j = decide (j = i) := by
  rcases Nat.lt_or_ge j 32 with h | h
  · unfold fd_e
    rw [fd_bshl i hi 1 h, fd_b1]
    by_cases e : j = i
    · subst e
      simp
    · rw [decide_eq_false e]
      by_cases g : i ≤ j
      · rw [decide_eq_false (p := j - i = 0) (by omega), Bool.and_false]
      · rw [decide_eq_false g, Bool.false_and]
  · rw [fd_big h, decide_eq_false (by omega)]
theorem fd_oke {i : Nat} (hi : i < 8) : fd_ok (fd_e i) := by
  intro j hj
  rw [fd_be (by omega), decide_eq_false (by omega)]
/-- xor -/
theorem fd_xlc (a b c : Int32) : a ^^^ (b ^^^ c) = b ^^^ (a ^^^ c) := by rw [← Int32.xor_assoc, Int32.xor_comm a b, Int32.xor_assoc]
theorem fd_xls (a b : Int32) : a ^^^ (a ^^^ b) = b := by rw [← Int32.xor_assoc, Int32.xor_self, Int32.zero_xor]
theorem fd_xrs (a b : Int32) : a ^^^ b ^^^ b = a := by rw [Int32.xor_assoc, Int32.xor_self, Int32.xor_zero]
theorem fd_xi (a b c : Int32) (h : a ^^^ b = c) : a = c ^^^ b := by rw [← h, fd_xrs]
/-- the bit that is taken out -/
theorem fd_bclr {p : Int32} {k j : Nat} (hk : k < 32) (hj : j < 32) : fd_bt (p &&& (fd_e k ^^^ (-1))) j = (fd_bt p j && !decide (j = k)) := by
  rw [fd_band, fd_bxor, fd_be hk, fd_bm1 j hj, Bool.xor_true]
end
section
/-! what rows span: sets alone (fd_sp), sets with values (fd_sv); the rank as it grows (fd_rk) -/
def fd_lin (a : Nat → Int32) (s : Int32) : Nat → Int32
  | 0 => 0
  | n + 1 => fd_lin a s n ^^^ (if fd_bt s n = true then a n else 0)
theorem fd_lin_s (a : Nat → Int32) (s : Int32) (n : Nat) : fd_lin a s (n + 1) = fd_lin a s n ^^^ (if fd_bt s n = true then a n else 0) := rfl
theorem fd_lin_ok {a : Nat → Int32} {s : Int32} : ∀ n, (∀ i, i < n → fd_ok (a i)) → fd_ok (fd_lin a s n) := by
  intro n
  induction n with
  | zero => exact fun _ => fd_ok0
  | succ n ih =>
    intro h
    rw [fd_lin_s]
    refine fd_okx (ih (fun i hi => h i (by omega))) ?_
    cases fd_bt s n
    · exact fd_ok0
    · exact h n (by omega)
theorem fd_lin_x (a : Nat → Int32) (s t : Int32) : ∀ n, fd_lin a (s ^^^ t) n = fd_lin a s n ^^^ fd_lin a t n := by
  intro n
  induction n with
  | zero => exact Int32.xor_zero.symm
  | succ n ih =>
    rw [fd_lin_s, fd_lin_s, fd_lin_s, ih, fd_bxor]
    cases fd_bt s n <;> cases fd_bt t n <;> simp [Int32.xor_assoc, Int32.xor_comm, fd_xlc, fd_xls]
theorem fd_lin_c {a b : Nat → Int32} {s : Int32} : ∀ n, (∀ i, i < n → a i = b i) → fd_lin a s n = fd_lin b s n := by
  intro n
  induction n with
  | zero => exact fun _ => rfl
  | succ n ih =>
    intro h
    rw [fd_lin_s, fd_lin_s, ih (fun i hi => h i (by omega)), h n (by omega)]
theorem fd_lin_0 (a : Nat → Int32) : ∀ n, fd_lin a 0 n = 0 := by
  intro n
  induction n with
  | zero => rfl
  | succ n ih =>
    rw [fd_lin_s, ih, fd_b0, if_neg (by simp), Int32.xor_zero]
theorem fd_lin_z {a : Nat → Int32} {s : Int32} : ∀ n, (∀ i, i < n → a i = 0) → fd_lin a s n = 0 := by
  intro n
  induction n with
  | zero => exact fun _ => rfl
  | succ n ih =>
    intro h
    rw [fd_lin_s, ih (fun i hi => h i (by omega)), h n (by omega), ite_self, Int32.xor_zero]
theorem fd_lin_e {a : Nat → Int32} {k : Nat} (hk : k < 32) : ∀ n, fd_lin a (fd_e k) n = if k < n then a k else 0 := by
  intro n
  induction n with
  | zero => rfl
  | succ n ih =>
    rw [fd_lin_s, ih, fd_be hk]
    by_cases e : n = k
    · subst e
      simp
    · rw [decide_eq_false e]
      by_cases g : k < n
      · rw [if_pos g, if_pos (show k < n + 1 by omega)]
        simp
      · rw [if_neg g, if_neg (show ¬ k < n + 1 by omega)]
        simp
def fd_sp : List (Int32 × Int32) → Int32 → Bool
  | [], s => decide (s = 0)
  | a :: L, s => fd_sp L s || fd_sp L (s ^^^ a.1)
def fd_sv : List (Int32 × Int32) → Int32 → Int32 → Prop
  | [], s, v => s = 0 ∧ v = 0
  | a :: L, s, v => fd_sv L s v ∨ fd_sv L (s ^^^ a.1) (v ^^^ a.2)
def fd_rk : List (Int32 × Int32) → Nat
  | [] => 0
  | a :: L => fd_rk L + (if fd_sp L a.1 = true then 0 else 1)
theorem fd_sp_c (a : Int32 × Int32) (L : List (Int32 × Int32)) (s : Int32) : fd_sp (a :: L) s = (fd_sp L s || fd_sp L (s ^^^ a.1)) := rfl
theorem fd_sp0 : ∀ L, fd_sp L 0 = true := by
  intro L
  induction L with
  | nil => rfl
  | cons a L ih => rw [fd_sp_c, ih, Bool.true_or]
theorem fd_sv0 : ∀ L, fd_sv L 0 0 := by
  intro L
  induction L with
  | nil => exact ⟨rfl, rfl⟩
  | cons a L ih => exact Or.inl ih
theorem fd_sv_x : ∀ L (s v t w : Int32), fd_sv L s v → fd_sv L t w → fd_sv L (s ^^^ t) (v ^^^ w) := by
  intro L
  induction L with
  | nil =>
    intro s v t w h g
    obtain ⟨rfl, rfl⟩ := h
    obtain ⟨rfl, rfl⟩ := g
    exact ⟨Int32.xor_zero, Int32.xor_zero⟩
  | cons a L ih =>
    intro s v t w h g
    rcases h with h | h <;> rcases g with g | g
    · exact Or.inl (ih _ _ _ _ h g)
    · refine Or.inr ?_
      have z := ih _ _ _ _ h g
      rw [← Int32.xor_assoc, ← Int32.xor_assoc] at z
      exact z
    · refine Or.inr ?_
      have z := ih _ _ _ _ h g
      rw [Int32.xor_assoc, Int32.xor_comm a.1 t, ← Int32.xor_assoc, Int32.xor_assoc v, Int32.xor_comm a.2 w, ← Int32.xor_assoc] at z
      exact z
    · refine Or.inl ?_
      have z := ih _ _ _ _ h g
      have e1 : s ^^^ a.1 ^^^ (t ^^^ a.1) = s ^^^ t := by simp [Int32.xor_assoc, Int32.xor_comm, fd_xlc, fd_xls]
      have e2 : v ^^^ a.2 ^^^ (w ^^^ a.2) = v ^^^ w := by simp [Int32.xor_assoc, Int32.xor_comm, fd_xlc, fd_xls]
      rw [e1, e2] at z
      exact z
theorem fd_sv_sp : ∀ L (s v : Int32), fd_sv L s v → fd_sp L s = true := by
  intro L
  induction L with
  | nil =>
    intro s v h
    exact decide_eq_true h.1
  | cons a L ih =>
    intro s v h
    rw [fd_sp_c]
    rcases h with h | h
    · rw [ih _ _ h, Bool.true_or]
    · rw [ih _ _ h, Bool.or_true]
/-- no set has two values -/
def fd_con (L : List (Int32 × Int32)) : Prop := ∀ v, fd_sv L 0 v → v = 0
theorem fd_con_c {L : List (Int32 × Int32)} {s v : Int32} (h : fd_con L) (g : fd_sp L s = true → fd_sv L s v) : fd_con ((s, v) :: L) := by
  intro w z
  rcases z with z | z
  · exact h w z
  · have z' : fd_sv L (0 ^^^ s) (w ^^^ v) := z
    rw [Int32.zero_xor] at z'
    have y := fd_sv_x L _ _ _ _ z' (g (fd_sv_sp L _ _ z'))
    rw [Int32.xor_self, fd_xrs] at y
    exact h w y
theorem fd_con_e {L : List (Int32 × Int32)} {s v w : Int32} (h : fd_con L) (h1 : fd_sv L s v) (h2 : fd_sv L s w) : v = w := by
  have y := fd_sv_x L _ _ _ _ h1 h2
  rw [Int32.xor_self] at y
  exact Int32.xor_eq_zero_iff.mp (h _ y)
/-- the rows in the order in which they are built: the newest first -/
def fd_bl (A B : Nat → Int32) (p : Int32) : Nat → List (Int32 × Int32)
  | 0 => []
  | n + 1 => if fd_bt p n = true then (A n, B n) :: fd_bl A B p n else fd_bl A B p n
theorem fd_bl_t {A B : Nat → Int32} {p : Int32} {n : Nat} (h : fd_bt p n = true) : fd_bl A B p (n + 1) = (A n, B n) :: fd_bl A B p n := if_pos h
theorem fd_bl_f {A B : Nat → Int32} {p : Int32} {n : Nat} (h : fd_bt p n = false) : fd_bl A B p (n + 1) = fd_bl A B p n := if_neg (by rw [h]; simp)
theorem fd_bl_c {A B A' B' : Nat → Int32} {p p' : Int32} : ∀ n, (∀ i, i < n → A i = A' i ∧ B i = B' i ∧ fd_bt p i = fd_bt p' i) → fd_bl A B p n = fd_bl A' B' p' n := by
  intro n
  induction n with
  | zero => exact fun _ => rfl
  | succ n ih =>
    intro h
    obtain ⟨h1, h2, h3⟩ := h n (by omega)
    cases e : fd_bt p n
    · rw [fd_bl_f e, fd_bl_f (by rw [← h3, e]), ih (fun i hi => h i (by omega))]
    · rw [fd_bl_t e, fd_bl_t (by rw [← h3, e]), ih (fun i hi => h i (by omega)), h1, h2]
theorem fd_bl_m {A B : Nat → Int32} {p q : Int32} : ∀ n, (∀ i, i < n → fd_bt p i = true → fd_bt q i = true) → ∀ s v, fd_sv (fd_bl A B p n) s v → fd_sv (fd_bl A B q n) s v := by
  intro n
  induction n with
  | zero => exact fun _ s v h => h
  | succ n ih =>
    intro h s v z
    have ih' := ih (fun i hi => h i (by omega))
    cases e : fd_bt p n
    · rw [fd_bl_f e] at z
      cases g : fd_bt q n
      · rw [fd_bl_f g]
        exact ih' s v z
      · rw [fd_bl_t g]
        exact Or.inl (ih' s v z)
    · rw [fd_bl_t e] at z
      rw [fd_bl_t (h n (by omega) e)]
      rcases z with z | z
      · exact Or.inl (ih' _ _ z)
      · exact Or.inr (ih' _ _ z)
theorem fd_bl_i {A B : Nat → Int32} {p s v : Int32} {k : Nat} (hk : k < 32) (hp : fd_bt p k = false) : ∀ n, k < n → ∀ x y, fd_sv (fd_bl (upd A k s) (upd B k v) (p ||| fd_e k) n) x y ↔ fd_sv ((s, v) :: fd_bl A B p n) x y := by
  intro n
  induction n with
  | zero => exact fun h => absurd h (by omega)
  | succ n ih =>
    intro h x y
    by_cases e : n = k
    · subst e
      have t : fd_bt (p ||| fd_e n) n = true := by rw [fd_bor, fd_be hk, decide_eq_true rfl, Bool.or_true]
      have c : fd_bl (upd A n s) (upd B n v) (p ||| fd_e n) n = fd_bl A B p n := by
        apply fd_bl_c
        intro i hi
        refine ⟨pk_un (by omega), pk_un (by omega), ?_⟩
        rw [fd_bor, fd_be hk, decide_eq_false (by omega), Bool.or_false]
      rw [fd_bl_t t, fd_bl_f hp, c, pk_us, pk_us]
    · have b : fd_bt (p ||| fd_e k) n = fd_bt p n := by rw [fd_bor, fd_be hk, decide_eq_false e, Bool.or_false]
      have ih' := ih (by omega)
      cases g : fd_bt p n
      · rw [fd_bl_f (by rw [b, g]), fd_bl_f g]
        exact ih' x y
      · rw [fd_bl_t (by rw [b, g]), fd_bl_t g, pk_un e, pk_un e]
        show (fd_sv _ x y ∨ fd_sv _ (x ^^^ A n) (y ^^^ B n)) ↔ ((fd_sv _ x y ∨ fd_sv _ (x ^^^ A n) (y ^^^ B n)) ∨ (fd_sv _ (x ^^^ s) (y ^^^ v) ∨ fd_sv _ (x ^^^ s ^^^ A n) (y ^^^ v ^^^ B n)))
        rw [ih' x y, ih' (x ^^^ A n) (y ^^^ B n)]
        show ((fd_sv _ x y ∨ fd_sv _ (x ^^^ s) (y ^^^ v)) ∨ (fd_sv _ (x ^^^ A n) (y ^^^ B n) ∨ fd_sv _ (x ^^^ A n ^^^ s) (y ^^^ B n ^^^ v))) ↔ _
        rw [Int32.xor_assoc x (A n) s, Int32.xor_comm (A n) s, ← Int32.xor_assoc, Int32.xor_assoc y (B n) v, Int32.xor_comm (B n) v, ← Int32.xor_assoc]
        exact or_or_or_comm
/-- what is kept is consistent: behind a drop that is taken, behind one that is dropped -/
theorem fd_con_take {A B : Nat → Int32} {p s v : Int32} {k n : Nat} (hk : k < n) (hn : n ≤ 32) (hp : fd_bt p k = false) (h : fd_con ((s, v) :: fd_bl A B p n)) : fd_con (fd_bl (upd A k s) (upd B k v) (p ||| fd_e k) n) :=
  fun w z => h w ((fd_bl_i (by omega) hp n hk 0 w).mp z)
theorem fd_con_drop {A B : Nat → Int32} {p q : Int32} {n : Nat} (hq : ∀ i, i < n → fd_bt q i = true → fd_bt p i = true) (h : fd_con (fd_bl A B p n)) : fd_con (fd_bl A B q n) :=
  fun w z => h w (fd_bl_m n hq 0 w z)
theorem fd_rk_len : ∀ L, fd_rk L ≤ L.length := by
  intro L
  induction L with
  | nil => exact Nat.le_refl 0
  | cons a L ih =>
    show fd_rk L + (if fd_sp L a.1 = true then 0 else 1) ≤ L.length + 1
    split <;> omega
theorem fd_bl_len (A B : Nat → Int32) (p : Int32) : ∀ n, (fd_bl A B p n).length ≤ n := by
  intro n
  induction n with
  | zero => exact Nat.le_refl 0
  | succ n ih =>
    cases e : fd_bt p n
    · rw [fd_bl_f e]
      omega
    · rw [fd_bl_t e, List.length_cons]
      omega
theorem fd_rk_bl (A B : Nat → Int32) (p : Int32) (n : Nat) : fd_rk (fd_bl A B p n) ≤ n := Nat.le_trans (fd_rk_len _) (fd_bl_len A B p n)
/-- all sets are bytes -/
def fd_okL (L : List (Int32 × Int32)) : Prop := ∀ a, a ∈ L → fd_ok a.1
theorem fd_okL_bl {A B : Nat → Int32} {p : Int32} (h : ∀ k, fd_ok (A k)) : ∀ n, fd_okL (fd_bl A B p n) := by
  intro n
  induction n with
  | zero => exact fun a ha => absurd ha (by simp [fd_bl])
  | succ n ih =>
    cases e : fd_bt p n
    · rw [fd_bl_f e]
      exact ih
    · rw [fd_bl_t e]
      intro a ha
      rcases List.mem_cons.mp ha with z | z
      · rw [z]
        exact h n
      · exact ih a z
theorem fd_okL_c {a : Int32 × Int32} {L : List (Int32 × Int32)} (ha : fd_ok a.1) (h : fd_okL L) : fd_okL (a :: L) := by
  intro b hb
  rcases List.mem_cons.mp hb with z | z
  · rw [z]
    exact ha
  · exact h b z
end
section
/-! the turn of a set, what is added, and what both do to what is spanned -/
def fd_mv (x : Int32) (c : Nat) : Int32 := ((x <<< (nI c &&& 31)) ||| (x >>> ((8 - nI c) &&& 31))) &&& 255
theorem fd_mv_ok (x : Int32) (c : Nat) : fd_ok (fd_mv x c) := fd_ok255 _
theorem fd_mv_b {x : Int32} {c i : Nat} (hx : fd_ok x) (hc : c < 8) (hi : i < 8) : fd_bt (fd_mv x c) i = fd_bt x ((i + 8 - c) % 8) := by
  unfold fd_mv
  have e : (8 : Int32) - nI c = nI (8 - c) := pk_sub (a := 8) (by omega)
  rw [e, fd_band, fd_b255, decide_eq_true hi, Bool.and_true, fd_bor, fd_bshl c (by omega) x (by omega), fd_bshr (8 - c) (by omega) x (by omega), if_pos (by omega)]
  rcases Nat.lt_or_ge i c with h | h
  · rw [decide_eq_false (by omega), Bool.false_and, Bool.false_or, show (i + 8 - c) % 8 = 8 - c + i by omega]
  · rw [decide_eq_true h, Bool.true_and, hx (8 - c + i) (by omega), Bool.or_false, show (i + 8 - c) % 8 = i - c by omega]
theorem fd_mv_x {x y : Int32} {c : Nat} (hx : fd_ok x) (hy : fd_ok y) (hc : c < 8) : fd_mv (x ^^^ y) c = fd_mv x c ^^^ fd_mv y c := by
  apply fd_ext8 (fd_mv_ok _ _) (fd_okx (fd_mv_ok _ _) (fd_mv_ok _ _))
  intro i hi
  rw [fd_mv_b (fd_okx hx hy) hc hi, fd_bxor, fd_bxor, fd_mv_b hx hc hi, fd_mv_b hy hc hi]
theorem fd_mv_back {x : Int32} {c : Nat} (hx : fd_ok x) (hc : c < 8) : fd_mv (fd_mv x ((8 - c) % 8)) c = x := by
  apply fd_ext8 (fd_mv_ok _ _) hx
  intro i hi
  rw [fd_mv_b (fd_mv_ok _ _) hc hi, fd_mv_b hx (by omega) (by omega)]
  congr 1
  omega
theorem fd_mv_0 {c : Nat} (hc : c < 8) : fd_mv 0 c = 0 := by
  apply fd_ext8 (fd_mv_ok _ _) fd_ok0
  intro i hi
  rw [fd_mv_b fd_ok0 hc hi, fd_b0, fd_b0]
theorem fd_mv_z {x : Int32} {c : Nat} (hx : fd_ok x) (hc : c < 8) : fd_mv x c = 0 ↔ x = 0 := by
  constructor
  · intro h
    apply fd_ext8 hx fd_ok0
    intro i hi
    have e : fd_bt (fd_mv x c) ((i + c) % 8) = fd_bt x i := by
      rw [fd_mv_b hx hc (by omega)]
      congr 1
      omega
    rw [← e, h, fd_b0, fd_b0]
  · intro h
    rw [h, fd_mv_0 hc]
theorem fd_mv_e {c i : Nat} (hc : c < 8) (hi : i < 8) : fd_mv (fd_e ((i + 8 - c) % 8)) c = fd_e i := by
  apply fd_ext8 (fd_mv_ok _ _) (fd_oke hi)
  intro j hj
  rw [fd_mv_b (fd_oke (by omega)) hc hj, fd_be (by omega), fd_be (by omega)]
  by_cases e : j = i
  · subst e
    rw [decide_eq_true rfl, decide_eq_true rfl]
  · rw [decide_eq_false e, decide_eq_false (by omega)]
/-- what is added -/
def fd_ad (x : Int32) : Int32 := fd_lin (fun i => (37 * nI i) &&& 255) x 8
theorem fd_ad_ok (x : Int32) : fd_ok (fd_ad x) := fd_lin_ok 8 (fun i _ => fd_ok255 _)
theorem fd_ad_x (x y : Int32) : fd_ad (x ^^^ y) = fd_ad x ^^^ fd_ad y := fd_lin_x _ x y 8
theorem fd_ad_0 : fd_ad 0 = 0 := fd_lin_0 _ 8
def fd_ph (c : Nat) (a : Int32 × Int32) : Int32 × Int32 := (fd_mv a.1 c, a.2 ^^^ fd_ad a.1)
theorem fd_ph_sp {c : Nat} (hc : c < 8) : ∀ L L' : List (Int32 × Int32), fd_okL L → L'.map (fun a => a.1) = L.map (fun a => fd_mv a.1 c) → ∀ s, fd_ok s → fd_sp L' (fd_mv s c) = fd_sp L s := by
  intro L
  induction L with
  | nil =>
    intro L' _ e s hs
    have e' : L' = [] := List.map_eq_nil_iff.mp e
    subst e'
    show decide (fd_mv s c = 0) = decide (s = 0)
    rw [decide_eq_decide]
    exact fd_mv_z hs hc
  | cons a L ih =>
    intro L' hL e s hs
    cases L' with
    | nil => exact absurd e (by simp)
    | cons b L' =>
      rw [List.map_cons, List.map_cons] at e
      have e1 : b.1 = fd_mv a.1 c := (List.cons.inj e).1
      have e2 := (List.cons.inj e).2
      have ha : fd_ok a.1 := hL a (List.mem_cons_self ..)
      have hL' : fd_okL L := fun x hx => hL x (List.mem_cons_of_mem _ hx)
      rw [fd_sp_c, fd_sp_c, e1, ← fd_mv_x hs ha hc, ih L' hL' e2 s hs, ih L' hL' e2 _ (fd_okx hs ha)]
theorem fd_ph_rk {c : Nat} (hc : c < 8) : ∀ L L' : List (Int32 × Int32), fd_okL L → L'.map (fun a => a.1) = L.map (fun a => fd_mv a.1 c) → fd_rk L' = fd_rk L := by
  intro L
  induction L with
  | nil =>
    intro L' _ e
    have e' : L' = [] := List.map_eq_nil_iff.mp e
    subst e'
    rfl
  | cons a L ih =>
    intro L' hL e
    cases L' with
    | nil => exact absurd e (by simp)
    | cons b L' =>
      rw [List.map_cons, List.map_cons] at e
      have e1 : b.1 = fd_mv a.1 c := (List.cons.inj e).1
      have e2 := (List.cons.inj e).2
      have ha : fd_ok a.1 := hL a (List.mem_cons_self ..)
      have hL' : fd_okL L := fun x hx => hL x (List.mem_cons_of_mem _ hx)
      show fd_rk L' + (if fd_sp L' b.1 = true then 0 else 1) = fd_rk L + (if fd_sp L a.1 = true then 0 else 1)
      rw [ih L' hL' e2, e1, fd_ph_sp hc L L' hL' e2 _ ha]
theorem fd_ph_sv {c : Nat} (hc : c < 8) : ∀ L : List (Int32 × Int32), fd_okL L → ∀ s v, fd_ok s → (fd_sv (L.map (fd_ph c)) (fd_mv s c) (v ^^^ fd_ad s) ↔ fd_sv L s v) := by
  intro L
  induction L with
  | nil =>
    intro _ s v hs
    show (fd_mv s c = 0 ∧ v ^^^ fd_ad s = 0) ↔ (s = 0 ∧ v = 0)
    rw [fd_mv_z hs hc]
    constructor
    · intro h
      have h2 := h.2
      rw [h.1, fd_ad_0, Int32.xor_zero] at h2
      exact ⟨h.1, h2⟩
    · intro h
      rw [h.1, h.2, fd_ad_0, Int32.xor_zero]
      exact ⟨rfl, rfl⟩
  | cons a L ih =>
    intro hL s v hs
    have ha : fd_ok a.1 := hL a (List.mem_cons_self ..)
    have hL' : fd_okL L := fun x hx => hL x (List.mem_cons_of_mem _ hx)
    have e : v ^^^ fd_ad s ^^^ (a.2 ^^^ fd_ad a.1) = v ^^^ a.2 ^^^ fd_ad (s ^^^ a.1) := by
      rw [fd_ad_x]
      simp only [Int32.xor_assoc, Int32.xor_comm, fd_xlc]
    show (fd_sv (L.map (fd_ph c)) (fd_mv s c) (v ^^^ fd_ad s) ∨ fd_sv (L.map (fd_ph c)) (fd_mv s c ^^^ fd_mv a.1 c) (v ^^^ fd_ad s ^^^ (a.2 ^^^ fd_ad a.1))) ↔ (fd_sv L s v ∨ fd_sv L (s ^^^ a.1) (v ^^^ a.2))
    rw [e, ← fd_mv_x hs ha hc, ih hL' s v hs, ih hL' _ _ (fd_okx hs ha)]
theorem fd_ph_con {c : Nat} (hc : c < 8) {L : List (Int32 × Int32)} (hL : fd_okL L) (h : fd_con L) : fd_con (L.map (fd_ph c)) := by
  intro v z
  apply h v
  apply (fd_ph_sv hc L hL 0 v fd_ok0).mp
  rw [fd_mv_0 hc, fd_ad_0, Int32.xor_zero]
  exact z
theorem fd_ph_map (c : Nat) (L : List (Int32 × Int32)) : (L.map (fd_ph c)).map (fun a => a.1) = L.map (fun a => fd_mv a.1 c) := by
  rw [List.map_map]
  rfl
/-- the turned object's rows -/
theorem fd_ph_bl {A B A' B' : Nat → Int32} {p : Int32} {c : Nat} (hA : ∀ k, A' k = fd_mv (A k) c) (hB : ∀ k, B' k = B k ^^^ fd_ad (A k)) : ∀ n, fd_bl A' B' p n = (fd_bl A B p n).map (fd_ph c) := by
  intro n
  induction n with
  | zero => rfl
  | succ n ih =>
    cases e : fd_bt p n
    · rw [fd_bl_f e, fd_bl_f e, ih]
    · rw [fd_bl_t e, fd_bl_t e, ih, hA, hB]
      rfl
/-- the single pieces -/
def fd_sg (L : List (Int32 × Int32)) : Nat → Int32
  | 0 => 0
  | n + 1 => fd_sg L n ||| (if fd_sp L (fd_e n) = true then fd_e n else 0)
theorem fd_sg_s (L : List (Int32 × Int32)) (n : Nat) : fd_sg L (n + 1) = fd_sg L n ||| (if fd_sp L (fd_e n) = true then fd_e n else 0) := rfl
theorem fd_sg_b (L : List (Int32 × Int32)) (j : Nat) : ∀ n, n ≤ 32 → fd_bt (fd_sg L n) j = (decide (j < n) && fd_sp L (fd_e j)) := by
  intro n
  induction n with
  | zero =>
    intro _
    rw [decide_eq_false (by omega), Bool.false_and]
    exact fd_b0 j
  | succ n ih =>
    intro hn
    rw [fd_sg_s, fd_bor, ih (by omega)]
    by_cases e : j = n
    · subst e
      rw [decide_eq_false (by omega), Bool.false_and, Bool.false_or, decide_eq_true (by omega), Bool.true_and]
      cases fd_sp L (fd_e j)
      · rw [if_neg (by simp), fd_b0]
      · rw [if_pos rfl, fd_be (by omega), decide_eq_true rfl]
    · have z : fd_bt (if fd_sp L (fd_e n) = true then fd_e n else 0) j = false := by
        split
        · rw [fd_be (by omega), decide_eq_false e]
        · exact fd_b0 j
      rw [z, Bool.or_false]
      by_cases g : j < n
      · rw [decide_eq_true g, decide_eq_true (by omega)]
      · rw [decide_eq_false g, decide_eq_false (by omega)]
theorem fd_sg_ok (L : List (Int32 × Int32)) : fd_ok (fd_sg L 8) := by
  intro i hi
  rw [fd_sg_b L i 8 (by omega), decide_eq_false (by omega), Bool.false_and]
theorem fd_ph_sg {c : Nat} (hc : c < 8) {L L' : List (Int32 × Int32)} (hL : fd_okL L) (e : L'.map (fun a => a.1) = L.map (fun a => fd_mv a.1 c)) : fd_sg L' 8 = fd_mv (fd_sg L 8) c := by
  apply fd_ext8 (fd_sg_ok _) (fd_mv_ok _ _)
  intro i hi
  rw [fd_mv_b (fd_sg_ok _) hc hi, fd_sg_b L' i 8 (by omega), fd_sg_b L _ 8 (by omega), decide_eq_true hi, decide_eq_true (by omega), Bool.true_and, Bool.true_and, ← fd_mv_e hc hi, fd_ph_sp hc L L' hL e _ (fd_oke (by omega))]
/-- how many -/
def fd_on (x : Int32) : Nat → Nat
  | 0 => 0
  | n + 1 => fd_on x n + (if fd_bt x n = true then 1 else 0)
theorem fd_on_s (x : Int32) (n : Nat) : fd_on x (n + 1) = fd_on x n + (if fd_bt x n = true then 1 else 0) := rfl
theorem fd_on_le (x : Int32) : ∀ n, fd_on x n ≤ n := by
  intro n
  induction n with
  | zero => exact Nat.le_refl 0
  | succ n ih =>
    rw [fd_on_s]
    split <;> omega
theorem fd_on_mv {x : Int32} {c : Nat} (hx : fd_ok x) (hc : c < 8) : fd_on (fd_mv x c) 8 = fd_on x 8 := by
  simp only [fd_on, fd_mv_b hx hc (show 0 < 8 by omega), fd_mv_b hx hc (show 1 < 8 by omega), fd_mv_b hx hc (show 2 < 8 by omega), fd_mv_b hx hc (show 3 < 8 by omega), fd_mv_b hx hc (show 4 < 8 by omega), fd_mv_b hx hc (show 5 < 8 by omega), fd_mv_b hx hc (show 6 < 8 by omega), fd_mv_b hx hc (show 7 < 8 by omega)]
  have h : c = 0 ∨ c = 1 ∨ c = 2 ∨ c = 3 ∨ c = 4 ∨ c = 5 ∨ c = 6 ∨ c = 7 := by omega
  rcases h with h | h | h | h | h | h | h | h <;> subst h <;> simp only [Nat.reduceAdd, Nat.reduceSub, Nat.reduceMod] <;> omega
/-- how many are known with one more set -/
def fd_cw (L : List (Int32 × Int32)) (s : Int32) : Nat := fd_on (fd_sg ((s, 0) :: L) 8) 8
theorem fd_cw_le (L : List (Int32 × Int32)) (s : Int32) : fd_cw L s ≤ 8 := fd_on_le _ 8
theorem fd_ph_cw {c : Nat} (hc : c < 8) {L L' : List (Int32 × Int32)} (hL : fd_okL L) (e : L'.map (fun a => a.1) = L.map (fun a => fd_mv a.1 c)) {s : Int32} (hs : fd_ok s) : fd_cw L' (fd_mv s c) = fd_cw L s := by
  unfold fd_cw
  rw [fd_ph_sg hc (L := (s, 0) :: L) (fd_okL_c hs hL) (by rw [List.map_cons, List.map_cons, e]), fd_on_mv (fd_sg_ok _) hc]
/-- the best set's count is the same -/
theorem fd_ph_best {c : Nat} (hc : c < 8) {L L' : List (Int32 × Int32)} (hL : fd_okL L) (e : L'.map (fun a => a.1) = L.map (fun a => fd_mv a.1 c)) {s t : Int32} (hs : fd_ok s) (hs0 : s ≠ 0) (ht : fd_ok t) (ht0 : t ≠ 0)
    (h : ∀ x, fd_ok x → x ≠ 0 → fd_cw L x ≤ fd_cw L s) (h' : ∀ x, fd_ok x → x ≠ 0 → fd_cw L' x ≤ fd_cw L' t) : fd_cw L s = fd_cw L' t := by
  have h1 := h' (fd_mv s c) (fd_mv_ok _ _) (fun z => hs0 ((fd_mv_z hs hc).mp z))
  rw [fd_ph_cw hc hL e hs] at h1
  have b := fd_mv_back ht hc
  have h2 := h (fd_mv t ((8 - c) % 8)) (fd_mv_ok _ _) (fun z => ht0 (by rw [← b, z, fd_mv_0 hc]))
  rw [← fd_ph_cw hc hL e (fd_mv_ok _ _), b] at h2
  omega
end
section
/-! the rows: a leading piece that no other row has -/
def fd_rr (a3 a4 : Nat → Int32) : Prop := (∀ i, i < 8 → fd_ok (a3 i) ∧ fd_ok (a4 i)) ∧ (∀ i, i < 8 → a3 i = 0 → a4 i = 0) ∧ (∀ i, i < 8 → a3 i ≠ 0 → fd_bt (a3 i) i = true) ∧ (∀ i j, i < 8 → j < 8 → i ≠ j → a3 i ≠ 0 → fd_bt (a3 j) i = false)
/-- what is left of a set -/
def fd_N (a3 : Nat → Int32) (s : Int32) : Int32 := s ^^^ fd_lin a3 s 8
theorem fd_lin_p {a3 a4 : Nat → Int32} {s : Int32} {p : Nat} (h : fd_rr a3 a4) (hp : p < 8) (h0 : a3 p ≠ 0) : ∀ m, m ≤ 8 → fd_bt (fd_lin a3 s m) p = (decide (p < m) && fd_bt s p) := by
  obtain ⟨_, _, h3, h4⟩ := h
  intro m
  induction m with
  | zero =>
    intro _
    rw [decide_eq_false (by omega), Bool.false_and]
    exact fd_b0 p
  | succ m ih =>
    intro hm
    rw [fd_lin_s, fd_bxor, ih (by omega)]
    by_cases e : m = p
    · subst e
      rw [decide_eq_false (by omega), Bool.false_and, Bool.false_xor, decide_eq_true (by omega), Bool.true_and]
      cases fd_bt s m
      · rw [if_neg (by simp), fd_b0]
      · rw [if_pos rfl, h3 m hp h0]
    · have z : fd_bt (if fd_bt s m = true then a3 m else 0) p = false := by
        split
        · exact h4 p m hp (by omega) (by omega) h0
        · exact fd_b0 p
      rw [z, Bool.xor_false]
      by_cases g : p < m
      · rw [decide_eq_true g, decide_eq_true (by omega)]
      · rw [decide_eq_false g, decide_eq_false (by omega)]
theorem fd_N_p {a3 a4 : Nat → Int32} {s : Int32} {p : Nat} (h : fd_rr a3 a4) (hp : p < 8) (h0 : a3 p ≠ 0) : fd_bt (fd_N a3 s) p = false := by
  unfold fd_N
  rw [fd_bxor, fd_lin_p h hp h0 8 (by omega), decide_eq_true hp, Bool.true_and, Bool.xor_self]
theorem fd_N_x (a3 : Nat → Int32) (s t : Int32) : fd_N a3 (s ^^^ t) = fd_N a3 s ^^^ fd_N a3 t := by
  unfold fd_N
  rw [fd_lin_x]
  simp only [Int32.xor_assoc, Int32.xor_comm, fd_xlc]
theorem fd_N_ok {a3 a4 : Nat → Int32} {s : Int32} (h : fd_rr a3 a4) (hs : fd_ok s) : fd_ok (fd_N a3 s) := fd_okx hs (fd_lin_ok 8 (fun i hi => (h.1 i hi).1))
theorem fd_V_ok {a3 a4 : Nat → Int32} {s : Int32} (h : fd_rr a3 a4) : fd_ok (fd_lin a4 s 8) := fd_lin_ok 8 (fun i hi => (h.1 i hi).2)
theorem fd_N_c {a3 b3 : Nat → Int32} {s : Int32} (h : ∀ j, j < 8 → b3 j = a3 j) : fd_N b3 s = fd_N a3 s := by
  unfold fd_N
  rw [fd_lin_c 8 h]
theorem fd_rr_c {a3 a4 b3 b4 : Nat → Int32} (h3 : ∀ j, j < 8 → b3 j = a3 j) (h4 : ∀ j, j < 8 → b4 j = a4 j) (h : fd_rr a3 a4) : fd_rr b3 b4 := by
  obtain ⟨g1, g2, g3, g4⟩ := h
  refine ⟨fun i hi => ?_, fun i hi => ?_, fun i hi => ?_, fun i j hi hj => ?_⟩
  · rw [h3 i hi, h4 i hi]
    exact g1 i hi
  · rw [h3 i hi, h4 i hi]
    exact g2 i hi
  · rw [h3 i hi]
    exact g3 i hi
  · rw [h3 i hi, h3 j hj]
    exact g4 i j hi hj
/-- the rows with one more -/
def fd_nw (a3 a : Nat → Int32) (i : Nat) (y : Int32) (j : Nat) : Int32 := if j = i then y else if fd_bt (a3 j) i = true then a j ^^^ y else a j
theorem fd_nw_i (a3 a : Nat → Int32) (i : Nat) (y : Int32) : fd_nw a3 a i y i = y := if_pos rfl
theorem fd_nw_n {a3 a : Nat → Int32} {i j : Nat} {y : Int32} (h : j ≠ i) : fd_nw a3 a i y j = if fd_bt (a3 j) i = true then a j ^^^ y else a j := if_neg h
theorem fd_lin_nw {a3 a : Nat → Int32} {s y : Int32} {i : Nat} (h0 : a i = 0) (h3 : a3 i = 0) : ∀ n, fd_lin (fd_nw a3 a i y) s n = fd_lin a s n ^^^ (if ((decide (i < n) && fd_bt s i) ^^ fd_bt (fd_lin a3 s n) i) = true then y else 0) := by
  intro n
  induction n with
  | zero =>
    show (0 : Int32) = 0 ^^^ (if ((decide (i < 0) && fd_bt s i) ^^ fd_bt 0 i) = true then y else 0)
    rw [fd_b0, decide_eq_false (by omega)]
    simp
  | succ n ih =>
    rw [fd_lin_s, fd_lin_s, fd_lin_s, ih, fd_bxor]
    by_cases e : n = i
    · subst e
      rw [fd_nw_i, h0, h3, decide_eq_false (show ¬ n < n by omega), decide_eq_true (show n < n + 1 by omega)]
      cases fd_bt s n <;> cases fd_bt (fd_lin a3 s n) n <;> simp [fd_b0, Int32.xor_assoc]
    · rw [fd_nw_n e]
      have d : decide (i < n + 1) = decide (i < n) := by
        by_cases g : i < n
        · rw [decide_eq_true g, decide_eq_true (by omega)]
        · rw [decide_eq_false g, decide_eq_false (by omega)]
      rw [d]
      generalize (decide (i < n) && fd_bt s i) = q
      generalize fd_lin a s n = l
      generalize fd_bt (fd_lin a3 s n) i = r
      cases fd_bt s n
      · cases q <;> cases r <;> simp [fd_b0]
      · cases g : fd_bt (a3 n) i <;> cases q <;> cases r <;> simp [g, Int32.xor_assoc, Int32.xor_comm, fd_xlc, fd_xls]
theorem fd_rr_nw {a3 a4 : Nat → Int32} {y w : Int32} {i : Nat} (h : fd_rr a3 a4) (hi : i < 8) (hy : fd_ok y) (hw : fd_ok w) (hb : fd_bt y i = true) (hp : ∀ p, p < 8 → a3 p ≠ 0 → fd_bt y p = false) : fd_rr (fd_nw a3 a3 i y) (fd_nw a3 a4 i w) := by
  obtain ⟨g1, g2, g3, g4⟩ := h
  have y0 : y ≠ 0 := by
    intro z
    rw [z, fd_b0] at hb
    exact absurd hb (by simp)
  have nz : ∀ j, j < 8 → j ≠ i → a3 j = 0 → fd_nw a3 a3 i y j = 0 ∧ fd_nw a3 a4 i w j = 0 := by
    intro j hj e z
    rw [fd_nw_n e, fd_nw_n e, z, fd_b0, if_neg (by simp), if_neg (by simp)]
    exact ⟨rfl, g2 j hj z⟩
  have lead : ∀ j, j < 8 → j ≠ i → a3 j ≠ 0 → fd_bt (fd_nw a3 a3 i y j) j = true := by
    intro j hj e z
    rw [fd_nw_n e]
    split
    · rw [fd_bxor, g3 j hj z, hp j hj z]
      rfl
    · exact g3 j hj z
  refine ⟨fun j hj => ?_, fun j hj z => ?_, fun j hj z => ?_, fun p j hpp hj e z => ?_⟩
  · by_cases e : j = i
    · subst e
      rw [fd_nw_i, fd_nw_i]
      exact ⟨hy, hw⟩
    · rw [fd_nw_n e, fd_nw_n e]
      split
      · exact ⟨fd_okx (g1 j hj).1 hy, fd_okx (g1 j hj).2 hw⟩
      · exact g1 j hj
  · by_cases e : j = i
    · subst e
      rw [fd_nw_i] at z
      exact absurd z y0
    · by_cases q : a3 j = 0
      · exact (nz j hj e q).2
      · have t := lead j hj e q
        rw [z, fd_b0] at t
        exact absurd t (by simp)
  · by_cases e : j = i
    · subst e
      rw [fd_nw_i]
      exact hb
    · by_cases q : a3 j = 0
      · exact absurd (nz j hj e q).1 z
      · exact lead j hj e q
  · by_cases ep : p = i
    · subst ep
      rw [fd_nw_n (fun t => e t.symm)]
      cases t : fd_bt (a3 j) p
      · rw [if_neg (by simp)]
        exact t
      · rw [if_pos rfl, fd_bxor, t, hb]
        rfl
    · have q : a3 p ≠ 0 := fun q => z (nz p hpp ep q).1
      by_cases ej : j = i
      · subst ej
        rw [fd_nw_i]
        exact hp p hpp q
      · rw [fd_nw_n ej]
        split
        · rw [fd_bxor, g4 p j hpp hj e q, hp p hpp q]
          rfl
        · exact g4 p j hpp hj e q
/-- the rows hold the list L -/
def fd_I (a3 a4 : Nat → Int32) (rk : Int32) (L : List (Int32 × Int32)) : Prop :=
  fd_rr a3 a4 ∧ (∀ s, fd_ok s → (fd_N a3 s = 0 ↔ fd_sp L s = true)) ∧ (∀ s, fd_ok s → fd_sp L s = true → fd_sv L s (fd_lin a4 s 8)) ∧ rk = nI (fd_rk L)
/-- what one more row does -/
def fd_Inc (a3 a4 : Nat → Int32) (rk s v : Int32) (b3 b4 : Nat → Int32) (rk' : Int32) : Prop :=
  (fd_N a3 s = 0 ∧ rk' = rk ∧ (∀ j, j < 8 → b3 j = a3 j) ∧ (∀ j, j < 8 → b4 j = a4 j)) ∨
  (fd_N a3 s ≠ 0 ∧ rk' = rk + 1 ∧ ∃ i, i < 8 ∧ fd_bt (fd_N a3 s) i = true ∧ (∀ j, j < 8 → b3 j = fd_nw a3 a3 i (fd_N a3 s) j) ∧ (∀ j, j < 8 → b4 j = fd_nw a3 a4 i (v ^^^ fd_lin a4 s 8) j))
theorem fd_I_0 {a3 a4 : Nat → Int32} (h3 : ∀ j, j < 8 → a3 j = 0) (h4 : ∀ j, j < 8 → a4 j = 0) : fd_I a3 a4 0 [] := by
  refine ⟨⟨fun i hi => ?_, fun i hi _ => h4 i hi, fun i hi z => absurd (h3 i hi) z, fun i j hi hj _ z => absurd (h3 i hi) z⟩, fun s _ => ?_, fun s _ z => ?_, rfl⟩
  · rw [h3 i hi, h4 i hi]
    exact ⟨fd_ok0, fd_ok0⟩
  · unfold fd_N
    rw [fd_lin_z 8 h3, Int32.xor_zero]
    exact decide_eq_true_iff.symm
  · rw [fd_lin_z 8 h4]
    exact ⟨of_decide_eq_true z, rfl⟩
theorem fd_I_inc {a3 a4 b3 b4 : Nat → Int32} {rk rk' s v : Int32} {L : List (Int32 × Int32)} (h : fd_I a3 a4 rk L) (hs : fd_ok s) (hv : fd_ok v) (hi : fd_Inc a3 a4 rk s v b3 b4 rk') : fd_I b3 b4 rk' ((s, v) :: L) := by
  obtain ⟨hr, hN, hV, hk⟩ := h
  have cons : ∀ x, fd_ok x → (fd_sp ((s, v) :: L) x = true ↔ (fd_N a3 x = 0 ∨ fd_N a3 x = fd_N a3 s)) := by
    intro x hx
    show (fd_sp L x || fd_sp L (x ^^^ s)) = true ↔ _
    rw [Bool.or_eq_true, ← hN x hx, ← hN _ (fd_okx hx hs), fd_N_x, Int32.xor_eq_zero_iff]
  rcases hi with ⟨z, e, c3, c4⟩ | ⟨z, e, i, hi, hb, c3, c4⟩
  · have sps : fd_sp L s = true := (hN s hs).mp z
    refine ⟨fd_rr_c c3 c4 hr, fun x hx => ?_, fun x hx t => ?_, ?_⟩
    · rw [fd_N_c c3, cons x hx, z]
      exact ⟨Or.inl, fun t => t.elim id id⟩
    · rw [cons x hx, z] at t
      rw [fd_lin_c 8 c4]
      exact Or.inl (hV x hx ((hN x hx).mp (t.elim id id)))
    · show rk' = nI (fd_rk L + (if fd_sp L s = true then 0 else 1))
      rw [if_pos sps, e, hk]
      rfl
  · have i0 : a3 i = 0 := by
      rcases Decidable.em (a3 i = 0) with q | q
      · exact q
      · rw [fd_N_p hr hi q] at hb
        exact absurd hb (by simp)
    have i4 : a4 i = 0 := hr.2.1 i hi i0
    have sps : ¬ fd_sp L s = true := fun q => z ((hN s hs).mpr q)
    have n8 : ∀ x, ((decide (i < 8) && fd_bt x i) ^^ fd_bt (fd_lin a3 x 8) i) = fd_bt (fd_N a3 x) i := by
      intro x
      unfold fd_N
      rw [decide_eq_true hi, Bool.true_and, fd_bxor]
    have hN' : ∀ x, fd_N b3 x = fd_N a3 x ^^^ (if fd_bt (fd_N a3 x) i = true then fd_N a3 s else 0) := by
      intro x
      rw [fd_N_c c3]
      unfold fd_N at *
      rw [fd_lin_nw i0 i0 8, n8 x, Int32.xor_assoc]
    have hV' : ∀ x, fd_lin b4 x 8 = fd_lin a4 x 8 ^^^ (if fd_bt (fd_N a3 x) i = true then v ^^^ fd_lin a4 s 8 else 0) := by
      intro x
      rw [fd_lin_c 8 c4, fd_lin_nw i4 i0 8, n8 x]
    have zero : ∀ x, fd_N b3 x = 0 ↔ (fd_N a3 x = 0 ∨ fd_N a3 x = fd_N a3 s) := by
      intro x
      rw [hN' x]
      cases t : fd_bt (fd_N a3 x) i
      · rw [if_neg (by simp), Int32.xor_zero]
        refine ⟨Or.inl, fun q => q.elim id (fun q => ?_)⟩
        rw [q, hb] at t
        exact absurd t (by simp)
      · rw [if_pos rfl, Int32.xor_eq_zero_iff]
        refine ⟨Or.inr, fun q => q.elim (fun q => ?_) id⟩
        rw [q, fd_b0] at t
        exact absurd t (by simp)
    refine ⟨fd_rr_c c3 c4 (fd_rr_nw hr hi (fd_N_ok hr hs) (fd_okx hv (fd_V_ok hr)) hb (fun p hp q => fd_N_p hr hp q)), fun x hx => ?_, fun x hx t => ?_, ?_⟩
    · rw [cons x hx, zero x]
    · rw [cons x hx] at t
      rw [hV' x]
      rcases t with t | t
      · rw [t, fd_b0, if_neg (by simp), Int32.xor_zero]
        exact Or.inl (hV x hx ((hN x hx).mp t))
      · rw [t, hb, if_pos rfl]
        have q : fd_sp L (x ^^^ s) = true := (hN _ (fd_okx hx hs)).mp (by rw [fd_N_x, t, Int32.xor_self])
        have w := hV _ (fd_okx hx hs) q
        refine Or.inr ?_
        show fd_sv L (x ^^^ s) (fd_lin a4 x 8 ^^^ (v ^^^ fd_lin a4 s 8) ^^^ v)
        rw [fd_lin_x] at w
        have ee : fd_lin a4 x 8 ^^^ (v ^^^ fd_lin a4 s 8) ^^^ v = fd_lin a4 x 8 ^^^ fd_lin a4 s 8 := by
          simp [Int32.xor_assoc, Int32.xor_comm, fd_xlc, fd_xls]
        rw [ee]
        exact w
    · show rk' = nI (fd_rk L + (if fd_sp L s = true then 0 else 1))
      rw [if_neg sps, e, hk, nI_1]
/-- a piece that is a row by itself -/
theorem fd_I_e {a3 a4 : Nat → Int32} {rk : Int32} {L : List (Int32 × Int32)} {i : Nat} (h : fd_I a3 a4 rk L) (hi : i < 8) : a3 i = fd_e i ↔ fd_sp L (fd_e i) = true := by
  rw [← h.2.1 (fd_e i) (fd_oke hi)]
  unfold fd_N
  rw [fd_lin_e (by omega), if_pos hi, Int32.xor_eq_zero_iff]
  exact ⟨fun z => z.symm, fun z => z.symm⟩
end
section
/-! the walks up to 'build' -/
theorem fd_w_has {post : Int32 → Prop} {pr kn rk l1 l2 : Int32} {a1 a2 a3 a4 : Nat → Int32} {k : Nat} (hk : k < 10) (H0 : fd_bt pr k = false → post 0) (H1 : fd_bt pr k = true → post 1) : wpX_has post (pr, kn, rk, l1, l2, a1, a2, a3, a4) (nI k) :=
  br_f (nI_pos (by omega)) (pk_le 10 k (fun z => absurd z (by omega)) (fun _ => fd_br k H0 H1))
theorem fd_up0 {s : Nat → Int32} {i : Nat} (h : ∀ j, j < i → s j = 0) : ∀ j, j < i + 1 → upd s i 0 j = 0 := by
  intro j hj
  by_cases e : j = i
  · rw [e, pk_us]
  · rw [pk_un e]
    exact h j (by omega)
theorem fd_w_clear {post : St1 → Prop} {pr kn rk l1 l2 : Int32} {a1 a2 a3 a4 : Nat → Int32} (H : ∀ b3 b4, (∀ j, j < 8 → b3 j = 0) → (∀ j, j < 8 → b4 j = 0) → post (pr, kn, 0, l1, l2, a1, a2, b3, b4)) : wpX_clearRows post (pr, kn, rk, l1, l2, a1, a2, a3, a4) :=
  pk_loop (fun n i (s : (Nat → Int32) × (Nat → Int32)) => wX_clearRows_2 post pr kn rk l1 l2 n (nI i) a1 a2 s.1 s.2) (fun i s => (∀ j, j < i → s.1 j = 0) ∧ (∀ j, j < i → s.2 j = 0)) 8 0 (a3, a4) (by omega) ⟨fun j hj => absurd hj (by omega), fun j hj => absurd hj (by omega)⟩
    (fun n s h => pk_le 8 8 (fun _ => H s.1 s.2 h.1 h.2) (fun z => absurd z (by omega)))
    (fun n i s hi h hw => pk_le 8 i (fun z => absurd z (by omega)) (fun _ => ⟨pk_in i 8 hi, nm_r (by rw [nI_clamp (by omega)]) ⟨pk_in i 8 hi, nm_r (by rw [nI_clamp (by omega)]) (nm_r (nI_1 i) (hw (upd s.1 i 0, upd s.2 i 0) ⟨fd_up0 h.1, fd_up0 h.2⟩))⟩⟩))
/-- the bit that 'reduce' looks at is the set's own -/
theorem fd_red_b {a3 a4 : Nat → Int32} {s ls : Int32} {i : Nat} (hr : fd_rr a3 a4) (hi : i < 8) (h0 : a3 i ≠ 0) (e : ls = fd_N a3 s ^^^ fd_lin a3 s (i + 1)) : fd_bt ls i = fd_bt s i := by
  rw [e, fd_bxor, fd_N_p hr hi h0, fd_lin_p hr hi h0 (i + 1) (by omega), decide_eq_true (by omega), Bool.true_and, Bool.false_xor]
theorem fd_lin_0s {a : Nat → Int32} {s : Int32} {i : Nat} (h : fd_bt s i = false ∨ a i = 0) : fd_lin a s (i + 1) = fd_lin a s i := by
  rw [fd_lin_s]
  rcases h with h | h
  · rw [h, if_neg (by simp), Int32.xor_zero]
  · rw [h, ite_self, Int32.xor_zero]
theorem fd_lin_1s {a : Nat → Int32} {s : Int32} {i : Nat} (h : fd_bt s i = true) : fd_lin a s (i + 1) = fd_lin a s i ^^^ a i := by
  rw [fd_lin_s, h, if_pos rfl]
theorem fd_w_reduce {post : St1 → Prop} {pr kn rk l1 l2 s v : Int32} {a1 a2 a3 a4 : Nat → Int32} (hr : fd_rr a3 a4) (H : post (pr, kn, rk, fd_N a3 s, v ^^^ fd_lin a4 s 8, a1, a2, a3, a4)) : wpX_reduce post (pr, kn, rk, l1, l2, a1, a2, a3, a4) s v := by
  have key : wX_reduce_13 post pr kn rk a1 a2 a3 a4 9 (nI 8 + (-1)) s v := by
    refine pk_loopD (fun n i (t : Int32 × Int32) => wX_reduce_13 post pr kn rk a1 a2 a3 a4 n (nI i + (-1)) t.1 t.2) (fun i t => i ≤ 8 ∧ t.1 = fd_N a3 s ^^^ fd_lin a3 s i ∧ t.2 = v ^^^ fd_lin a4 s 8 ^^^ fd_lin a4 s i) ?_ ?_ 8 (s, v) ⟨Nat.le_refl 8, ?_, ?_⟩
    · rintro n ⟨ls, lv⟩ ⟨_, e1, e2⟩
      have e1' : ls = fd_N a3 s := e1.trans Int32.xor_zero
      have e2' : lv = v ^^^ fd_lin a4 s 8 := e2.trans Int32.xor_zero
      subst e1' e2'
      exact br_t (by decide) H
    · rintro n i ⟨ls, lv⟩ ⟨h8, e1, e2⟩ hw
      have e1' : ls = fd_N a3 s ^^^ fd_lin a3 s (i + 1) := e1
      have e2' : lv = v ^^^ fd_lin a4 s 8 ^^^ fd_lin a4 s (i + 1) := e2
      show wX_reduce_13 post pr kn rk a1 a2 a3 a4 (n + 1) (nI (i + 1) + (-1)) ls lv
      rw [pk_m1]
      have same : (fd_bt s i = false ∨ a3 i = 0) → wX_reduce_13 post pr kn rk a1 a2 a3 a4 n (nI i + (-1)) ls lv := by
        intro q
        have q4 : fd_bt s i = false ∨ a4 i = 0 := q.elim Or.inl (fun q => Or.inr (hr.2.1 i (by omega) q))
        exact hw (ls, lv) ⟨by omega, by rw [← fd_lin_0s q]; exact e1', by rw [← fd_lin_0s q4]; exact e2'⟩
      refine br_f (nI_pos (by omega)) (fd_br i (fun e => nm_e (same ?_)) (fun e => ⟨pk_in i 8 (by omega), ?_⟩))
      · rcases Decidable.em (a3 i = 0) with q | q
        · exact Or.inr q
        · rw [fd_red_b hr (by omega) q e1'] at e
          exact Or.inl e
      · rw [nI_clamp (show i < 2 ^ 31 by omega)]
        rcases Decidable.em (a3 i = 0) with q | q
        · exact br_t q (nm_e (same (Or.inr q)))
        · rw [fd_red_b hr (by omega) q e1'] at e
          refine br_f q ⟨pk_in i 8 (by omega), nm_e ⟨pk_in i 8 (by omega), nm_e (nm_e (hw (ls ^^^ a3 i, lv ^^^ a4 i) ⟨by omega, ?_, ?_⟩))⟩⟩
          · show ls ^^^ a3 i = _
            rw [e1', fd_lin_1s e, ← Int32.xor_assoc, fd_xrs]
          · show lv ^^^ a4 i = _
            rw [e2', fd_lin_1s e, ← Int32.xor_assoc, fd_xrs]
    · show s = _
      unfold fd_N
      rw [fd_xrs]
    · show v = _
      rw [fd_xrs]
  rw [show nI 8 + (-1) = 7 from by decide] at key
  exact ⟨9, key⟩
theorem fd_w_leader {post : Int32 → Prop} {x : Int32} (hx : fd_ok x) (h0 : x ≠ 0) (H : ∀ i, i < 8 → fd_bt x i = true → post (nI i)) : wpX_leader post () x := by
  have key : wX_leader_3 post x 8 (nI 7) := by
    refine pk_loopD (σ := Unit) (fun n i _ => wX_leader_3 post x n (nI i)) (fun i _ => i < 8 ∧ ∀ j, i < j → fd_bt x j = false) ?_ ?_ 7 () ⟨by omega, fun j hj => hx j (by omega)⟩
    · rintro n _ ⟨_, h⟩
      have b : fd_bt x 0 = true := by
        cases t : fd_bt x 0
        · refine absurd (fd_ext8 hx fd_ok0 (fun i hi => ?_)) h0
          rw [fd_b0]
          by_cases e : i = 0
          · rw [e, t]
          · exact h i (by omega)
        · rfl
      exact br_t (by decide) (H 0 (by omega) b)
    · rintro n i _ ⟨h8, h⟩ hw
      refine br_f (nI_nle (by omega) (by omega)) (fd_br (i + 1) (fun e => nm_r (pk_m1 i) (hw () ⟨by omega, fun j hj => ?_⟩)) (fun e => H (i + 1) h8 e))
      by_cases z : j = i + 1
      · rw [z, e]
      · exact h j (by omega)
  exact ⟨8, key⟩
def fd_hf (a3 a : Nat → Int32) (i : Nat) (y : Int32) (j m : Nat) : Int32 := if m < j ∧ fd_bt (a3 m) i = true then a m ^^^ y else a m
theorem fd_hf_0 (a3 a : Nat → Int32) (i : Nat) (y : Int32) (m : Nat) : fd_hf a3 a i y 0 m = a m := if_neg (fun z => absurd z.1 (by omega))
theorem fd_hf_ge {a3 a : Nat → Int32} {i : Nat} {y : Int32} {j m : Nat} (h : j ≤ m) : fd_hf a3 a i y j m = a m := if_neg (fun z => absurd z.1 (by omega))
theorem fd_hf_f {a3 a : Nat → Int32} {i : Nat} {y : Int32} {j m : Nat} (h : fd_bt (a3 j) i = false) : fd_hf a3 a i y (j + 1) m = fd_hf a3 a i y j m := by
  unfold fd_hf
  by_cases e : m = j
  · subst e
    rw [if_neg (fun z => by rw [h] at z; exact absurd z.2 (by simp)), if_neg (fun z => by rw [h] at z; exact absurd z.2 (by simp))]
  · by_cases g : m < j ∧ fd_bt (a3 m) i = true
    · rw [if_pos g, if_pos ⟨by omega, g.2⟩]
    · rw [if_neg g, if_neg (fun z => g ⟨by omega, z.2⟩)]
theorem fd_hf_t {a3 a s : Nat → Int32} {i : Nat} {y x : Int32} {j : Nat} (h : fd_bt (a3 j) i = true) (hs : ∀ m, m < 8 → s m = fd_hf a3 a i y j m) (hx : x = a j ^^^ y) : ∀ m, m < 8 → upd s j x m = fd_hf a3 a i y (j + 1) m := by
  intro m hm
  by_cases e : m = j
  · subst e
    rw [pk_us, hx]
    exact (if_pos ⟨by omega, h⟩).symm
  · rw [pk_un e, hs m hm]
    unfold fd_hf
    by_cases g : m < j ∧ fd_bt (a3 m) i = true
    · rw [if_pos g, if_pos ⟨by omega, g.2⟩]
    · rw [if_neg g, if_neg (fun z => g ⟨by omega, z.2⟩)]
theorem fd_hf_nw {a3 a s : Nat → Int32} {i : Nat} {y x : Int32} (hs : ∀ m, m < 8 → s m = fd_hf a3 a i y 8 m) (hx : x = y) : ∀ m, m < 8 → upd s i x m = fd_nw a3 a i y m := by
  intro m hm
  by_cases e : m = i
  · subst e
    rw [pk_us, fd_nw_i, hx]
  · rw [pk_un e, fd_nw_n e, hs m hm]
    unfold fd_hf
    by_cases g : fd_bt (a3 m) i = true
    · rw [if_pos ⟨hm, g⟩, if_pos g]
    · rw [if_neg (fun z => g z.2), if_neg g]
theorem fd_w_inc25 {post : St1 → Prop} {pr kn rk y w : Int32} {a1 a2 a3 a4 : Nat → Int32} {i : Nat} (hr : fd_rr a3 a4) (hi : i < 8) (hy : fd_ok y) (hv : fd_ok w)
    (H : ∀ b3 b4, (∀ j, j < 8 → b3 j = fd_nw a3 a3 i y j) → (∀ j, j < 8 → b4 j = fd_nw a3 a4 i w j) → post (pr, kn, rk + 1, y, w, a1, a2, b3, b4)) : ∃ n, wX_include_25 post (nI i) pr kn rk y w n 0 a1 a2 a3 a4 := by
  refine pk_loop (fun n j (s : (Nat → Int32) × (Nat → Int32)) => wX_include_25 post (nI i) pr kn rk y w n (nI j) a1 a2 s.1 s.2) (fun j s => (∀ m, m < 8 → s.1 m = fd_hf a3 a3 i y j m) ∧ (∀ m, m < 8 → s.2 m = fd_hf a3 a4 i w j m)) 8 0 (a3, a4) (by omega) ⟨fun m _ => (fd_hf_0 a3 a3 i y m).symm, fun m _ => (fd_hf_0 a3 a4 i w m).symm⟩ ?_ ?_
  · rintro n ⟨s3, s4⟩ ⟨h3, h4⟩
    refine pk_le 8 8 (fun _ => ⟨pk_in i 8 hi, nm_r (by rw [nI_clamp (by omega)]) ⟨pk_in i 8 hi, nm_r (by rw [nI_clamp (by omega)]) (nm_e (H (upd s3 i y.toInt16.toInt32) (upd s4 i w.toInt16.toInt32) ?_ ?_))⟩⟩) (fun z => absurd z (by omega))
    · exact fd_hf_nw h3 (fd_sh hy)
    · exact fd_hf_nw h4 (fd_sh hv)
  · rintro n j ⟨s3, s4⟩ hj ⟨h3, h4⟩ hw
    have h3' : ∀ m, m < 8 → s3 m = fd_hf a3 a3 i y j m := h3
    have h4' : ∀ m, m < 8 → s4 m = fd_hf a3 a4 i w j m := h4
    have e3 : s3 j = a3 j := (h3' j hj).trans (fd_hf_ge (Nat.le_refl j))
    have e4 : s4 j = a4 j := (h4' j hj).trans (fd_hf_ge (Nat.le_refl j))
    refine pk_le 8 j (fun z => absurd z (by omega)) (fun _ => ⟨pk_in j 8 hj, ?_⟩)
    dsimp only
    rw [nI_clamp (show j < 2 ^ 31 by omega), e3, e4]
    refine fd_br i (fun e => nm_r (nI_1 j) (hw (s3, s4) ⟨fun m hm => ?_, fun m hm => ?_⟩)) (fun e => ⟨pk_in j 8 hj, pk_in j 8 hj, nm_e ⟨pk_in j 8 hj, pk_in j 8 hj, nm_e (nm_r (nI_1 j) (hw (upd s3 j ((a3 j ^^^ y).toInt16.toInt32), upd s4 j ((a4 j ^^^ w).toInt16.toInt32)) ⟨?_, ?_⟩))⟩⟩)
    · rw [fd_hf_f e]
      exact h3' m hm
    · rw [fd_hf_f e]
      exact h4' m hm
    · exact fd_hf_t e h3' (fd_sh (fd_okx (hr.1 j hj).1 hy))
    · exact fd_hf_t e h4' (fd_sh (fd_okx (hr.1 j hj).2 hv))
theorem fd_w_include {post : St1 → Prop} {pr kn rk l1 l2 s v : Int32} {a1 a2 a3 a4 : Nat → Int32} (hr : fd_rr a3 a4) (hs : fd_ok s) (hv : fd_ok v)
    (H : ∀ ls lv b3 b4 rk', fd_Inc a3 a4 rk s v b3 b4 rk' → post (pr, kn, rk', ls, lv, a1, a2, b3, b4)) : wpX_include post (pr, kn, rk, l1, l2, a1, a2, a3, a4) s v := by
  unfold wpX_include
  dsimp only
  refine fd_w_reduce hr ?_
  rcases Decidable.em (fd_N a3 s = 0) with z | z
  · exact br_t z (H _ _ _ _ _ (Or.inl ⟨z, rfl, fun _ _ => rfl, fun _ _ => rfl⟩))
  · exact br_f z (fd_w_leader (fd_N_ok hr hs) z (fun i hi hb => fd_w_inc25 hr hi (fd_N_ok hr hs) (fd_okx hv (fd_V_ok hr)) (fun b3 b4 h3 h4 => H _ _ _ _ _ (Or.inr ⟨z, rfl, i, hi, hb, h3, h4⟩))))
theorem fd_w_build {post : St1 → Prop} {pr kn rk l1 l2 p : Int32} {A B a3 a4 : Nat → Int32} (hA : ∀ k, fd_ok (A k)) (hB : ∀ k, fd_ok (B k))
    (H : ∀ rk' l1' l2' b3 b4, fd_I b3 b4 rk' (fd_bl A B p 10) → post (pr, kn, rk', l1', l2', A, B, b3, b4)) : wpX_build post (pr, kn, rk, l1, l2, A, B, a3, a4) p := by
  unfold wpX_build
  dsimp only
  refine fd_w_clear (fun c3 c4 z3 z4 => ?_)
  refine pk_loop (fun n k (t : Int32 × Int32 × Int32 × (Nat → Int32) × (Nat → Int32)) => wX_build_6 post p n (nI k) pr kn t.1 t.2.1 t.2.2.1 A B t.2.2.2.1 t.2.2.2.2) (fun k t => fd_I t.2.2.2.1 t.2.2.2.2 t.1 (fd_bl A B p k)) 10 0 (0, l1, l2, c3, c4) (by omega) (fd_I_0 z3 z4) ?_ ?_
  · rintro n ⟨r, m1, m2, d3, d4⟩ h
    exact pk_le 10 10 (fun _ => H r m1 m2 d3 d4 h) (fun z => absurd z (by omega))
  · rintro n k ⟨r, m1, m2, d3, d4⟩ hk h hw
    have h' : fd_I d3 d4 r (fd_bl A B p k) := h
    refine pk_le 10 k (fun z => absurd z (by omega)) (fun _ => fd_br k (fun e => nm_r (nI_1 k) (hw (r, m1, m2, d3, d4) ?_)) (fun e => ⟨pk_in k 10 hk, pk_in k 10 hk, ?_⟩))
    · show fd_I d3 d4 r (fd_bl A B p (k + 1))
      rw [fd_bl_f e]
      exact h'
    · dsimp only
      rw [nI_clamp (show k < 2 ^ 31 by omega)]
      refine fd_w_include h'.1 (hA k) (hB k) (fun ls lv b3 b4 rk' hi => nm_r (nI_1 k) (hw (rk', ls, lv, b3, b4) ?_))
      show fd_I b3 b4 rk' (fd_bl A B p (k + 1))
      rw [fd_bl_t e]
      exact fd_I_inc h' (hA k) (hB k) hi
end
section
/-! the walks of the other methods -/
theorem fd_w_rankOf {post : Int32 → St1 → Prop} {pr kn rk l1 l2 p : Int32} {A B a3 a4 : Nat → Int32} (hA : ∀ k, fd_ok (A k)) (hB : ∀ k, fd_ok (B k))
    (H : ∀ rk' l1' l2' b3 b4, post (nI (fd_rk (fd_bl A B (p &&& pr) 10))) (pr, 0, rk', l1', l2', A, B, b3, b4)) : wpX_rankOf post (pr, kn, rk, l1, l2, A, B, a3, a4) p := by
  unfold wpX_rankOf
  dsimp only
  refine fd_w_build hA hB (fun rk' l1' l2' b3 b4 h => ?_)
  have e := h.2.2.2
  subst e
  exact H _ l1' l2' b3 b4
def fd_en (A B : Nat → Int32) (P s : Int32) : Int32 := if fd_rk (fd_bl A B (s &&& P) 10) = fd_rk (fd_bl A B P 10) then 1 else 0
theorem fd_w_enough {post : Int32 → St1 → Prop} {pr kn rk l1 l2 p : Int32} {A B a3 a4 : Nat → Int32} (hA : ∀ k, fd_ok (A k)) (hB : ∀ k, fd_ok (B k))
    (H : ∀ rk' l1' l2' b3 b4, post (fd_en A B pr p) (pr, 0, rk', l1', l2', A, B, b3, b4)) : wpX_enough post (pr, kn, rk, l1, l2, A, B, a3, a4) p := by
  unfold wpX_enough
  dsimp only
  refine fd_w_rankOf hA hB (fun r1 m1 m2 c3 c4 => ?_)
  refine fd_w_rankOf hA hB (fun r2 n1 n2 d3 d4 => ?_)
  have b1 := fd_rk_bl A B (p &&& pr) 10
  have b2 := fd_rk_bl A B pr 10
  dsimp only
  rw [Int32.and_self]
  refine pk_eq _ _ (fun z => ?_) (fun z => ?_)
  · have t := H r2 n1 n2 d3 d4
    unfold fd_en at t
    rw [if_pos z] at t
    exact t
  · have t := H r2 n1 n2 d3 d4
    unfold fd_en at t
    rw [if_neg z] at t
    exact t
def fd_id (A B : Nat → Int32) (P : Int32) (k : Nat) : Int32 := if fd_bt P k = true then fd_en A B P (P &&& (fd_e k ^^^ (-1))) else 0
theorem fd_w_idle {post : Int32 → St1 → Prop} {pr rk l1 l2 : Int32} {A B a3 a4 : Nat → Int32} {k : Nat} (hk : k < 10) (hA : ∀ k, fd_ok (A k)) (hB : ∀ k, fd_ok (B k))
    (H : ∀ rk' l1' l2' b3 b4, post (fd_id A B pr k) (pr, 0, rk', l1', l2', A, B, b3, b4)) : wpX_idle post (pr, 0, rk, l1, l2, A, B, a3, a4) (nI k) := by
  unfold wpX_idle
  dsimp only
  refine fd_w_has hk (fun e => ?_) (fun e => ?_)
  · have t := H rk l1 l2 a3 a4
    unfold fd_id at t
    rw [if_neg (by rw [e]; simp)] at t
    exact br_t rfl t
  · refine br_f (by decide) (fd_w_enough hA hB (fun rk' l1' l2' b3 b4 => ?_))
    have t := H rk' l1' l2' b3 b4
    unfold fd_id at t
    rw [if_pos e] at t
    dsimp only
    show (fd_en A B pr (pr &&& (fd_e k ^^^ (-1))) = 0 → _) ∧ (¬ fd_en A B pr (pr &&& (fd_e k ^^^ (-1))) = 0 → _)
    unfold fd_en at t ⊢
    by_cases z : fd_rk (fd_bl A B (pr &&& (fd_e k ^^^ (-1)) &&& pr) 10) = fd_rk (fd_bl A B pr 10)
    · rw [if_pos z] at t ⊢
      exact br_f (by decide) t
    · rw [if_neg z] at t ⊢
      exact br_t rfl t
/-- the object as it stands: nothing is known, or the rows hold L -/
def fd_K (kn rk : Int32) (a3 a4 : Nat → Int32) (L : List (Int32 × Int32)) : Prop := kn ≠ 0 ∧ fd_I a3 a4 rk L
def fd_O (pr kn rk : Int32) (A B a3 a4 : Nat → Int32) (L : List (Int32 × Int32)) : Prop := (kn = 0 ∧ L = fd_bl A B pr 10) ∨ fd_K kn rk a3 a4 L
theorem fd_w_learn {post : St1 → Prop} {pr kn rk l1 l2 : Int32} {A B a3 a4 : Nat → Int32} {L : List (Int32 × Int32)} (hA : ∀ k, fd_ok (A k)) (hB : ∀ k, fd_ok (B k)) (ho : fd_O pr kn rk A B a3 a4 L)
    (H : ∀ kn' rk' l1' l2' b3 b4, fd_K kn' rk' b3 b4 L → post (pr, kn', rk', l1', l2', A, B, b3, b4)) : wpX_learn post (pr, kn, rk, l1, l2, A, B, a3, a4) := by
  rcases ho with ⟨z, e⟩ | h
  · subst e
    exact br_t z (fd_w_build hA hB (fun rk' l1' l2' b3 b4 h => H 1 rk' l1' l2' b3 b4 ⟨by decide, h⟩))
  · exact br_f h.1 (H kn rk l1 l2 a3 a4 h)
def fd_ks (L : List (Int32 × Int32)) : Int32 := ((1 : Int32) <<< (nI (fd_rk L) &&& 31)) - 1
theorem fd_w_knownSums {post : Int32 → St1 → Prop} {pr kn rk l1 l2 : Int32} {A B a3 a4 : Nat → Int32} {L : List (Int32 × Int32)} (hA : ∀ k, fd_ok (A k)) (hB : ∀ k, fd_ok (B k)) (ho : fd_O pr kn rk A B a3 a4 L)
    (H : ∀ kn' rk' l1' l2' b3 b4, fd_K kn' rk' b3 b4 L → post (fd_ks L) (pr, kn', rk', l1', l2', A, B, b3, b4)) : wpX_knownSums post (pr, kn, rk, l1, l2, A, B, a3, a4) := by
  unfold wpX_knownSums
  dsimp only
  refine fd_w_learn hA hB ho (fun kn' rk' l1' l2' b3 b4 h => ?_)
  have t := H kn' rk' l1' l2' b3 b4 h
  have e := h.2.2.2.2
  subst e
  exact t
theorem fd_w_missing {post : Int32 → St1 → Prop} {pr kn rk l1 l2 : Int32} {A B a3 a4 : Nat → Int32} {L : List (Int32 × Int32)} (hA : ∀ k, fd_ok (A k)) (hB : ∀ k, fd_ok (B k)) (ho : fd_O pr kn rk A B a3 a4 L)
    (H : ∀ kn' rk' l1' l2' b3 b4, fd_K kn' rk' b3 b4 L → post (8 - nI (fd_rk L)) (pr, kn', rk', l1', l2', A, B, b3, b4)) : wpX_missing post (pr, kn, rk, l1, l2, A, B, a3, a4) := by
  unfold wpX_missing
  dsimp only
  refine fd_w_learn hA hB ho (fun kn' rk' l1' l2' b3 b4 h => ?_)
  have t := H kn' rk' l1' l2' b3 b4 h
  have e := h.2.2.2.2
  subst e
  exact t
theorem fd_w_singles {post : Int32 → Prop} {pr kn rk l1 l2 r : Int32} {a1 a2 a3 a4 : Nat → Int32} {L : List (Int32 × Int32)} (h : fd_I a3 a4 r L) (H : post (fd_sg L 8)) : wpX_singles post (pr, kn, rk, l1, l2, a1, a2, a3, a4) := by
  refine pk_loop (fun n i (s : Int32) => wX_singles_4 post pr kn rk l1 l2 a1 a2 a3 a4 n s (nI i)) (fun i s => s = fd_sg L i) 8 0 0 (by omega) rfl ?_ ?_
  · rintro n s e
    subst e
    exact pk_le 8 8 (fun _ => H) (fun z => absurd z (by omega))
  · rintro n i s hi e hw
    subst e
    refine pk_le 8 i (fun z => absurd z (by omega)) (fun _ => ⟨pk_in i 8 hi, ?_⟩)
    rw [nI_clamp (show i < 2 ^ 31 by omega)]
    have q := fd_I_e h hi
    rcases Decidable.em (a3 i = fd_e i) with z | z
    · refine br_t z (nm_e (nm_r (nI_1 i) (hw (fd_sg L i ||| fd_e i) ?_)))
      rw [fd_sg_s, if_pos (q.mp z)]
    · refine br_f z (nm_e (nm_r (nI_1 i) (hw (fd_sg L i ||| 0) ?_)))
      rw [fd_sg_s, if_neg (fun t => z (q.mpr t))]
theorem fd_w_known {post : Int32 → St1 → Prop} {pr kn rk l1 l2 : Int32} {A B a3 a4 : Nat → Int32} {L : List (Int32 × Int32)} (hA : ∀ k, fd_ok (A k)) (hB : ∀ k, fd_ok (B k)) (ho : fd_O pr kn rk A B a3 a4 L)
    (H : ∀ kn' rk' l1' l2' b3 b4, fd_K kn' rk' b3 b4 L → post (fd_sg L 8) (pr, kn', rk', l1', l2', A, B, b3, b4)) : wpX_known post (pr, kn, rk, l1, l2, A, B, a3, a4) := by
  unfold wpX_known
  dsimp only
  refine fd_w_learn hA hB ho (fun kn' rk' l1' l2' b3 b4 h => ?_)
  exact fd_w_singles h.2 (H kn' rk' l1' l2' b3 b4 h)
theorem fd_w_sum {post : Int32 → St1 → Prop} {pr kn rk l1 l2 s : Int32} {A B a3 a4 : Nat → Int32} {L : List (Int32 × Int32)} (hA : ∀ k, fd_ok (A k)) (hB : ∀ k, fd_ok (B k)) (hs : fd_ok s) (ho : fd_O pr kn rk A B a3 a4 L)
    (H0 : fd_sp L s = false → ∀ kn' rk' l1' l2' b3 b4, fd_K kn' rk' b3 b4 L → post (-1) (pr, kn', rk', l1', l2', A, B, b3, b4))
    (H1 : fd_sp L s = true → ∀ r, fd_ok r → fd_sv L s r → ∀ kn' rk' l1' l2' b3 b4, fd_K kn' rk' b3 b4 L → post r (pr, kn', rk', l1', l2', A, B, b3, b4)) : wpX_sum post (pr, kn, rk, l1, l2, A, B, a3, a4) s := by
  obtain ⟨n, hn, e⟩ := fd_okE hs
  have c1 : ¬ s < 0 := by
    rw [e]
    exact nI_pos (by omega)
  have c2 : s ≤ 255 := by
    rw [e]
    exact nI_le (b := 255) (by omega) (by decide)
  refine br_f c1 (br_t c2 (fd_w_learn hA hB ho (fun kn' rk' l1' l2' b3 b4 h => ?_)))
  refine fd_w_reduce h.2.1 ?_
  obtain ⟨g0, gI⟩ := h
  have gI' := gI
  obtain ⟨hr, hN, hV, hk⟩ := gI
  rcases Decidable.em (fd_N b3 s = 0) with z | z
  · refine br_t z ?_
    have sp := (hN s hs).mp z
    rw [Int32.zero_xor]
    exact H1 sp _ (fd_V_ok hr) (hV s hs sp) _ _ _ _ _ _ ⟨g0, gI'⟩
  · refine br_f z ?_
    have sp : fd_sp L s = false := by
      cases t : fd_sp L s
      · rfl
      · exact absurd ((hN s hs).mpr t) z
    exact H0 sp _ _ _ _ _ _ ⟨g0, gI'⟩
theorem fd_w_added {post : Int32 → Prop} {x : Int32} (H : post (fd_ad x)) : wpL_added post () x := by
  refine pk_loop (fun n i (s : Int32) => wL_added_4 post x n s (nI i)) (fun i s => s = fd_lin (fun i => (37 * nI i) &&& 255) x i) 8 0 0 (by omega) rfl ?_ ?_
  · rintro n s e
    subst e
    exact pk_le 8 8 (fun _ => H) (fun z => absurd z (by omega))
  · rintro n i s hi e hw
    refine pk_le 8 i (fun z => absurd z (by omega)) (fun _ => fd_br1 i (fun t => nm_e (nm_r (nI_1 i) (hw _ ?_))) (fun t => nm_r (nI_1 i) (hw _ ?_)))
    · rw [fd_lin_1s t, e]
    · rw [fd_lin_0s (Or.inl t), e]
theorem fd_w_ones {post : Int32 → Prop} {x : Int32} (H : post (nI (fd_on x 8))) : wpX_ones post () x := by
  refine pk_loop (fun n i (s : Int32) => wX_ones_4 post x n s (nI i)) (fun i s => s = nI (fd_on x i)) 8 0 0 (by omega) rfl ?_ ?_
  · rintro n s e
    subst e
    exact pk_le 8 8 (fun _ => H) (fun z => absurd z (by omega))
  · rintro n i s hi e hw
    refine pk_le 8 i (fun z => absurd z (by omega)) (fun _ => nm_e (nm_r (nI_1 i) (hw _ ?_)))
    rw [fd_get x i (by omega), fd_on_s, e, ← nI_add]
    split <;> rfl
theorem fd_w_cw {post : Int32 → St1 → Prop} {pr kn rk l1 l2 s : Int32} {A B a3 a4 : Nat → Int32} (hA : ∀ k, fd_ok (A k)) (hB : ∀ k, fd_ok (B k)) (hs : fd_ok s)
    (H : ∀ rk' l1' l2' b3 b4, post (nI (fd_cw (fd_bl A B pr 10) s)) (pr, 0, rk', l1', l2', A, B, b3, b4)) : wpX_countWith post (pr, kn, rk, l1, l2, A, B, a3, a4) s := by
  unfold wpX_countWith
  dsimp only
  refine fd_w_build hA hB (fun r m1 m2 c3 c4 h => ?_)
  refine fd_w_include h.1 hs fd_ok0 (fun ls lv b3 b4 rk' hi => ?_)
  refine fd_w_singles (fd_I_inc h hs fd_ok0 hi) ?_
  exact fd_w_ones (H rk' ls lv b3 b4)
theorem fd_w_isSet {post : Int32 → Prop} {s : Int32} (hs : fd_ok s) (h0 : s ≠ 0) (H : post 1) : wpX_isSet post () s := by
  obtain ⟨n, hn, e⟩ := fd_okE hs
  have n0 : n ≠ 0 := by
    intro z
    rw [z, nI_0] at e
    exact h0 e
  subst e
  exact pk_lt n 1 (fun z => absurd z (by omega)) (fun _ => pk_lt 255 n (fun z => absurd z (by omega)) (fun _ => H))
theorem fd_w_knownWith {post : Int32 → St1 → Prop} {pr kn rk l1 l2 s : Int32} {A B a3 a4 : Nat → Int32} (hA : ∀ k, fd_ok (A k)) (hB : ∀ k, fd_ok (B k)) (hs : fd_ok s) (h0 : s ≠ 0)
    (H : ∀ rk' l1' l2' b3 b4, post (nI (fd_cw (fd_bl A B pr 10) s)) (pr, 0, rk', l1', l2', A, B, b3, b4)) : wpX_knownWith post (pr, kn, rk, l1, l2, A, B, a3, a4) s := by
  unfold wpX_knownWith
  dsimp only
  refine fd_w_isSet hs h0 (br_f (by decide) ?_)
  exact fd_w_cw hA hB hs H
theorem fd_w_best {post : Int32 → St1 → Prop} {pr kn rk l1 l2 : Int32} {A B a3 a4 : Nat → Int32} (hA : ∀ k, fd_ok (A k)) (hB : ∀ k, fd_ok (B k))
    (H : ∀ b, fd_ok b → b ≠ 0 → (∀ x, fd_ok x → x ≠ 0 → fd_cw (fd_bl A B pr 10) x ≤ fd_cw (fd_bl A B pr 10) b) → ∀ rk' l1' l2' b3 b4, post b (pr, 0, rk', l1', l2', A, B, b3, b4)) : wpX_bestSet post (pr, kn, rk, l1, l2, A, B, a3, a4) := by
  have C : ∀ x, fd_cw (fd_bl A B pr 10) x ≤ 8 := fun x => fd_cw_le _ x
  refine pk_loop (fun n t (s : Int32 × Int32 × Int32 × Int32 × Int32 × Int32 × (Nat → Int32) × (Nat → Int32)) => wX_bestSet_6 post n s.1 s.2.1 (nI t) pr s.2.2.1 s.2.2.2.1 s.2.2.2.2.1 s.2.2.2.2.2.1 A B s.2.2.2.2.2.2.1 s.2.2.2.2.2.2.2)
    (fun t s => 1 ≤ t ∧ ∃ b : Nat, 1 ≤ b ∧ b ≤ 255 ∧ s.1 = nI b ∧ ((t = 1 ∧ s.2.1 = -1) ∨ (s.2.2.1 = 0 ∧ s.2.1 = nI (fd_cw (fd_bl A B pr 10) (nI b)) ∧ ∀ x, 1 ≤ x → x < t → fd_cw (fd_bl A B pr 10) (nI x) ≤ fd_cw (fd_bl A B pr 10) (nI b)))) 256 1 (1, -1, kn, rk, l1, l2, a3, a4) (by omega) ⟨by omega, 1, by omega, by omega, rfl, Or.inl ⟨rfl, rfl⟩⟩ ?_ ?_
  · rintro n ⟨x1, x2, k, r, m1, m2, c3, c4⟩ ⟨t1, b, hb1, hb2, e1, h⟩
    have e1' : x1 = nI b := e1
    rcases h with ⟨z, _⟩ | ⟨e0, _, h⟩
    · exact absurd z (by omega)
    · have e0' : k = 0 := e0
      subst e1' e0'
      refine pk_lt 255 256 (fun _ => H (nI b) (fd_okn (by omega)) (fun z => nI_ne0 (by omega) (by omega) z) (fun x hx x0 => ?_) r m1 m2 c3 c4) (fun z => absurd z (by omega))
      obtain ⟨n, hn, e⟩ := fd_okE hx
      have n0 : n ≠ 0 := by
        intro z
        rw [z, nI_0] at e
        exact x0 e
      rw [e]
      exact h n (by omega) (by omega)
  · rintro n t ⟨x1, x2, k, r, m1, m2, c3, c4⟩ ht ⟨t1, b, hb1, hb2, e1, h⟩ hw
    have e1' : x1 = nI b := e1
    subst e1'
    refine pk_lt 255 t (fun z => absurd z (by omega)) (fun _ => fd_w_cw hA hB (fd_okn (by omega)) (fun rk' l1' l2' b3 b4 => ?_))
    have ct := C (nI t)
    have cb := C (nI b)
    rcases h with ⟨z, e2⟩ | ⟨e0, e2, h⟩
    · have e2' : x2 = -1 := e2
      subst e2'
      refine br_f ?_ (nm_r (nI_1 t) (hw (nI t, nI (fd_cw (fd_bl A B pr 10) (nI t)), 0, rk', l1', l2', b3, b4) ⟨by omega, t, by omega, by omega, rfl, Or.inr ⟨rfl, rfl, fun x hx1 hx2 => ?_⟩⟩))
      · intro q
        exact nI_pos (n := fd_cw (fd_bl A B pr 10) (nI t)) (by omega) (Int32.lt_of_le_of_lt q (show (-1 : Int32) < 0 by decide))
      · rw [show x = t by omega]
        exact Nat.le_refl _
    · have e2' : x2 = nI (fd_cw (fd_bl A B pr 10) (nI b)) := e2
      subst e2'
      refine pk_le (fd_cw (fd_bl A B pr 10) (nI t)) (fd_cw (fd_bl A B pr 10) (nI b)) (fun z => nm_r (nI_1 t) (hw (nI b, nI (fd_cw (fd_bl A B pr 10) (nI b)), 0, rk', l1', l2', b3, b4) ⟨by omega, b, by omega, by omega, rfl, Or.inr ⟨rfl, rfl, fun x hx1 hx2 => ?_⟩⟩)) (fun z => nm_r (nI_1 t) (hw (nI t, nI (fd_cw (fd_bl A B pr 10) (nI t)), 0, rk', l1', l2', b3, b4) ⟨by omega, t, by omega, by omega, rfl, Or.inr ⟨rfl, rfl, fun x hx1 hx2 => ?_⟩⟩))
      · by_cases q : x = t
        · rw [q]
          exact z
        · exact h x hx1 (by omega)
      · by_cases q : x = t
        · rw [q]
          exact Nat.le_refl _
        · exact Nat.le_trans (h x hx1 (by omega)) (by omega)
theorem fd_w_drop1 {post : Int32 → St1 → Prop} {pr kn rk l1 l2 : Int32} {A B a3 a4 : Nat → Int32} {k : Nat} (hk : k < 10) (hb : fd_bt pr k = true) (H : post 1 (pr &&& (fd_e k ^^^ (-1)), 0, rk, l1, l2, A, B, a3, a4)) : wpX_drop post (pr, kn, rk, l1, l2, A, B, a3, a4) (nI k) := by
  unfold wpX_drop
  dsimp only
  exact fd_w_has hk (fun e => absurd (e.symm.trans hb) (by simp)) (fun _ => br_f (by decide) (nm_e H))
theorem fd_w_drop0 {post : Int32 → St1 → Prop} {pr kn rk l1 l2 : Int32} {A B a3 a4 : Nat → Int32} {k : Nat} (hk : k < 10) (hb : fd_bt pr k = false) (H : post 0 (pr, kn, rk, l1, l2, A, B, a3, a4)) : wpX_drop post (pr, kn, rk, l1, l2, A, B, a3, a4) (nI k) := by
  unfold wpX_drop
  dsimp only
  exact fd_w_has hk (fun _ => br_t rfl H) (fun e => absurd (e.symm.trans hb) (by simp))
end
section
/-! 'take' -/
theorem fd_first (P : Int32) : ∀ m, ∃ k, k ≤ m ∧ (∀ j, j < k → fd_bt P j = true) ∧ (k < m → fd_bt P k = false) := by
  intro m
  induction m with
  | zero => exact ⟨0, Nat.le_refl 0, fun j hj => absurd hj (by omega), fun h => absurd h (by omega)⟩
  | succ m ih =>
    obtain ⟨k, h1, h2, h3⟩ := ih
    by_cases e : k < m
    · exact ⟨k, by omega, h2, fun _ => h3 e⟩
    · have e' : k = m := by omega
      subst e'
      cases b : fd_bt P k
      · exact ⟨k, by omega, h2, fun _ => b⟩
      · refine ⟨k + 1, Nat.le_refl _, fun j hj => ?_, fun h => absurd h (by omega)⟩
        by_cases z : j = k
        · rw [z, b]
        · exact h2 j (by omega)
theorem fd_w_take22 {post : Int32 → St1 → Prop} {pr kn rk l1 l2 s v : Int32} {a1 a2 a3 a4 : Nat → Int32} {k : Nat} (h10 : k ≤ 10) (hf : ∀ j, j < k → fd_bt pr j = true) (hk : k < 10 → fd_bt pr k = false)
    (H : wX_take_42 post s v (nI k) pr kn rk l1 l2 a1 a2 a3 a4) : ∃ n, wX_take_22 post s v pr kn rk l1 l2 a1 a2 a3 a4 n 0 :=
  pk_loop (σ := Unit) (fun n i _ => wX_take_22 post s v pr kn rk l1 l2 a1 a2 a3 a4 n (nI i)) (fun _ _ => True) k 0 () (by omega) trivial
    (fun n _ _ => pk_le 10 k (fun _ => H) (fun z => fd_w_has z (fun _ => br_t rfl H) (fun e => absurd ((hk z).symm.trans e) (by simp))))
    (fun n i _ hi _ hw => pk_le 10 i (fun z => absurd z (by omega)) (fun z => fd_w_has z (fun e => absurd (e.symm.trans (hf i hi)) (by simp)) (fun _ => br_f (by decide) (nm_r (nI_1 i) (hw () trivial)))))
theorem fd_w_take {post : Int32 → St1 → Prop} {pr kn rk l1 l2 s v : Int32} {a1 a2 a3 a4 : Nat → Int32} {k : Nat} (hs : fd_ok s) (h0 : s ≠ 0) (hv : fd_ok v) (h10 : k ≤ 10) (hf : ∀ j, j < k → fd_bt pr j = true) (hk : k < 10 → fd_bt pr k = false)
    (H : wX_take_42 post s v (nI k) pr kn rk l1 l2 a1 a2 a3 a4) : wpX_take post (pr, kn, rk, l1, l2, a1, a2, a3, a4) s v := by
  obtain ⟨n, hn, e⟩ := fd_okE hv
  have c1 : ¬ v < 0 := by
    rw [e]
    exact nI_pos (by omega)
  have c2 : v ≤ 255 := by
    rw [e]
    exact nI_le (b := 255) (by omega) (by decide)
  unfold wpX_take
  dsimp only
  exact fd_w_isSet hs h0 (br_f (by decide) (br_f c1 (br_t c2 (fd_w_take22 h10 hf hk H))))
theorem fd_w_take_full {post : Int32 → St1 → Prop} {pr kn rk l1 l2 s v : Int32} {a1 a2 a3 a4 : Nat → Int32} (hs : fd_ok s) (h0 : s ≠ 0) (hv : fd_ok v) (hf : ∀ j, j < 10 → fd_bt pr j = true)
    (H : post (-2) (pr, kn, rk, l1, l2, a1, a2, a3, a4)) : wpX_take post (pr, kn, rk, l1, l2, a1, a2, a3, a4) s v :=
  fd_w_take hs h0 hv (Nat.le_refl 10) hf (fun z => absurd z (by omega)) (br_t rfl H)
theorem fd_ne10 {k : Nat} (hk : k < 10) : ¬ nI k = 10 := fun z => absurd ((nI_eq (a := k) (b := 10) (by omega) (by omega)).mp z) (by omega)
theorem fd_w_take_ref {post : Int32 → St1 → Prop} {pr kn rk l1 l2 s v : Int32} {A B a3 a4 : Nat → Int32} {k : Nat} {L : List (Int32 × Int32)} (hA : ∀ k, fd_ok (A k)) (hB : ∀ k, fd_ok (B k)) (ho : fd_O pr kn rk A B a3 a4 L) (hs : fd_ok s) (h0 : s ≠ 0) (hv : fd_ok v) (hk : k < 10) (hf : ∀ j, j < k → fd_bt pr j = true) (hb : fd_bt pr k = false)
    (sp : fd_sp L s = true) (ns : ¬ fd_sv L s v)
    (H : ∀ kn' rk' l1' l2' b3 b4, fd_K kn' rk' b3 b4 L → post (-3) (pr, kn', rk', l1', l2', A, B, b3, b4)) : wpX_take post (pr, kn, rk, l1, l2, A, B, a3, a4) s v := by
  refine fd_w_take hs h0 hv (by omega) hf (fun _ => hb) (br_f (fd_ne10 hk) ?_)
  refine fd_w_learn hA hB ho (fun kn' rk' l1' l2' b3 b4 h => ?_)
  refine fd_w_reduce h.2.1 ?_
  have c1 : fd_N b3 s = 0 := (h.2.2.1 s hs).mpr sp
  have c2 : ¬ v ^^^ fd_lin b4 s 8 = 0 := by
    intro z
    apply ns
    rw [Int32.xor_eq_zero_iff.mp z]
    exact h.2.2.2.1 s hs sp
  exact br_t c1 (br_f c2 (H kn' rk' _ _ b3 b4 h))
theorem fd_w_take78 {post : Int32 → St1 → Prop} {pr kn rk l1 l2 s v : Int32} {A B a3 a4 : Nat → Int32} {k : Nat} {L : List (Int32 × Int32)} (hs : fd_ok s) (hv : fd_ok v) (hk : k < 10) (h : fd_K kn rk a3 a4 L)
    (H : ∀ kn' rk' l1' l2' b3 b4, fd_K kn' rk' b3 b4 ((s, v) :: L) → post (nI k) (pr ||| fd_e k, kn', rk', l1', l2', upd A k s, upd B k v, b3, b4)) : wX_take_78 post s v (nI k) pr kn rk l1 l2 A B a3 a4 := by
  unfold wX_take_78
  refine nm_e ⟨pk_in k 10 hk, nm_r (by rw [nI_clamp (by omega), fd_sh hs]) ⟨pk_in k 10 hk, nm_r (by rw [nI_clamp (by omega), fd_sh hv]) ?_⟩⟩
  exact fd_w_include h.2.1 hs hv (fun ls lv b3 b4 rk' hi => H kn rk' ls lv b3 b4 ⟨h.1, fd_I_inc h.2 hs hv hi⟩)
theorem fd_w_take_ok {post : Int32 → St1 → Prop} {pr kn rk l1 l2 s v : Int32} {A B a3 a4 : Nat → Int32} {k : Nat} {L : List (Int32 × Int32)} (hA : ∀ k, fd_ok (A k)) (hB : ∀ k, fd_ok (B k)) (ho : fd_O pr kn rk A B a3 a4 L) (con : fd_con L) (hs : fd_ok s) (h0 : s ≠ 0) (hv : fd_ok v) (hk : k < 10) (hf : ∀ j, j < k → fd_bt pr j = true) (hb : fd_bt pr k = false)
    (sp : fd_sp L s = true → fd_sv L s v)
    (H : ∀ kn' rk' l1' l2' b3 b4, fd_K kn' rk' b3 b4 ((s, v) :: L) → post (nI k) (pr ||| fd_e k, kn', rk', l1', l2', upd A k s, upd B k v, b3, b4)) : wpX_take post (pr, kn, rk, l1, l2, A, B, a3, a4) s v := by
  refine fd_w_take hs h0 hv (by omega) hf (fun _ => hb) (br_f (fd_ne10 hk) ?_)
  refine fd_w_learn hA hB ho (fun kn' rk' l1' l2' b3 b4 h => ?_)
  refine fd_w_reduce h.2.1 ?_
  rcases Decidable.em (fd_N b3 s = 0) with c1 | c1
  · have q : fd_sp L s = true := (h.2.2.1 s hs).mp c1
    have c2 : v ^^^ fd_lin b4 s 8 = 0 := Int32.xor_eq_zero_iff.mpr (fd_con_e con (sp q) (h.2.2.2.1 s hs q))
    exact br_t c1 (br_t c2 (fd_w_take78 hs hv hk h H))
  · exact br_f c1 (fd_w_take78 hs hv hk h H)
end
section
/-! 'alike' answers true -/
theorem fd_w_moved {post : Int32 → Prop} {x : Int32} {c : Nat} (H : post (fd_mv x c)) : wpL_moved post () x (nI c) := H
theorem fd_w_drops {post : Int32 → Prop} {pr kn rk l1 l2 : Int32} {a1 a2 a3 a4 : Nat → Int32} (H : post pr) : wpX_drops post (pr, kn, rk, l1, l2, a1, a2, a3, a4) := H
theorem fd_w_sum1 {post : Int32 → St1 → Prop} {pr kn rk l1 l2 s : Int32} {A B a3 a4 : Nat → Int32} {L : List (Int32 × Int32)} (hA : ∀ k, fd_ok (A k)) (hB : ∀ k, fd_ok (B k)) (hs : fd_ok s) (ho : fd_O pr kn rk A B a3 a4 L)
    (H : ∀ r, ((fd_sp L s = false ∧ r = -1) ∨ (fd_ok r ∧ fd_sv L s r)) → ∀ kn' rk' l1' l2' b3 b4, fd_K kn' rk' b3 b4 L → post r (pr, kn', rk', l1', l2', A, B, b3, b4)) : wpX_sum post (pr, kn, rk, l1, l2, A, B, a3, a4) s :=
  fd_w_sum hA hB hs ho (fun e => H (-1) (Or.inl ⟨e, rfl⟩)) (fun _ r hr hv => H r (Or.inr ⟨hr, hv⟩))
/-- the turned object's words -/
theorem fd_ph_en {A B A' B' : Nat → Int32} {c : Nat} (hc : c < 8) (hA : ∀ k, fd_ok (A k)) (eA : ∀ k, A' k = fd_mv (A k) c) (eB : ∀ k, B' k = B k ^^^ fd_ad (A k)) (P s : Int32) : fd_en A B P s = fd_en A' B' P s := by
  unfold fd_en
  rw [fd_ph_bl eA eB 10, fd_ph_bl eA eB 10, fd_ph_rk hc _ _ (fd_okL_bl hA 10) (fd_ph_map c _), fd_ph_rk hc _ _ (fd_okL_bl hA 10) (fd_ph_map c _)]
theorem fd_ph_id {A B A' B' : Nat → Int32} {c : Nat} (hc : c < 8) (hA : ∀ k, fd_ok (A k)) (eA : ∀ k, A' k = fd_mv (A k) c) (eB : ∀ k, B' k = B k ^^^ fd_ad (A k)) (P : Int32) (k : Nat) : fd_id A B P k = fd_id A' B' P k := by
  unfold fd_id
  rw [fd_ph_en hc hA eA eB]
theorem fd_ph_cwE {A B A' B' : Nat → Int32} {c : Nat} (hc : c < 8) (hA : ∀ k, fd_ok (A k)) (eA : ∀ k, A' k = fd_mv (A k) c) (eB : ∀ k, B' k = B k ^^^ fd_ad (A k)) (P : Int32) {s : Int32} (hs : fd_ok s) : fd_cw (fd_bl A B P 10) s = fd_cw (fd_bl A' B' P 10) (fd_mv s c) := by
  rw [fd_ph_bl eA eB 10, fd_ph_cw hc (fd_okL_bl hA 10) (fd_ph_map c _) hs]
theorem fd_ph_bestE {A B A' B' : Nat → Int32} {c : Nat} (hc : c < 8) (hA : ∀ k, fd_ok (A k)) (eA : ∀ k, A' k = fd_mv (A k) c) (eB : ∀ k, B' k = B k ^^^ fd_ad (A k)) (P : Int32) {s t : Int32} (hs : fd_ok s) (hs0 : s ≠ 0) (ht : fd_ok t) (ht0 : t ≠ 0)
    (h : ∀ x, fd_ok x → x ≠ 0 → fd_cw (fd_bl A B P 10) x ≤ fd_cw (fd_bl A B P 10) s) (h' : ∀ x, fd_ok x → x ≠ 0 → fd_cw (fd_bl A' B' P 10) x ≤ fd_cw (fd_bl A' B' P 10) t) : fd_cw (fd_bl A B P 10) s = fd_cw (fd_bl A' B' P 10) t := by
  rw [fd_ph_bl eA eB 10] at h' ⊢
  exact fd_ph_best hc (fd_okL_bl hA 10) (fd_ph_map c _) hs hs0 ht ht0 h h'
theorem fd_w_a136 {post : Int32 → St3 → Prop} {c : Nat} {P rk l1 l2 rk' l1' l2' : Int32} {A B a3 a4 A' B' b3 b4 : Nat → Int32} (hc : c < 8) (hA : ∀ k, fd_ok (A k)) (hB : ∀ k, fd_ok (B k)) (hA' : ∀ k, fd_ok (A' k)) (hB' : ∀ k, fd_ok (B' k)) (eA : ∀ k, A' k = fd_mv (A k) c) (eB : ∀ k, B' k = B k ^^^ fd_ad (A k))
    (H : ∀ r m1 m2 c3 c4 r' m1' m2' d3 d4, post 1 (P, 0, r, m1, m2, A, B, c3, c4, P, 0, r', m1', m2', A', B', d3, d4)) : ∃ n, wL_alike_136 post n 1 0 P 0 rk l1 l2 A B a3 a4 P 0 rk' l1' l2' A' B' b3 b4 := by
  refine pk_loop (fun n i (s : (Int32 × Int32 × Int32 × (Nat → Int32) × (Nat → Int32)) × (Int32 × Int32 × Int32 × (Nat → Int32) × (Nat → Int32))) => wL_alike_136 post n 1 (nI i) P 0 s.1.1 s.1.2.1 s.1.2.2.1 A B s.1.2.2.2.1 s.1.2.2.2.2 P 0 s.2.1 s.2.2.1 s.2.2.2.1 A' B' s.2.2.2.2.1 s.2.2.2.2.2) (fun _ _ => True) 10 0 ((rk, l1, l2, a3, a4), (rk', l1', l2', b3, b4)) (by omega) trivial ?_ ?_
  · rintro n ⟨⟨r, m1, m2, c3, c4⟩, ⟨r', m1', m2', d3, d4⟩⟩ _
    refine pk_le 10 10 (fun _ => ?_) (fun z => absurd z (by omega))
    refine fd_w_best hA hB (fun b hb b0 hm q1 q2 q3 q4 q5 => ?_)
    refine fd_w_best hA' hB' (fun d hd d0 hn p1 p2 p3 p4 p5 => ?_)
    refine br_f (by decide) ?_
    refine fd_w_knownWith hA hB hb b0 (fun u1 u2 u3 u4 u5 => ?_)
    refine fd_w_knownWith hA' hB' hd d0 (fun v1 v2 v3 v4 v5 => ?_)
    refine br_t ?_ (H _ _ _ _ _ _ _ _ _ _)
    rw [fd_ph_bestE hc hA eA eB P hb b0 hd d0 hm hn]
  · rintro n i ⟨⟨r, m1, m2, c3, c4⟩, ⟨r', m1', m2', d3, d4⟩⟩ hi _ hw
    refine pk_le 10 i (fun z => absurd z (by omega)) (fun _ => br_f (by decide) ?_)
    refine fd_w_idle hi hA hB (fun u1 u2 u3 u4 u5 => ?_)
    refine fd_w_idle hi hA' hB' (fun v1 v2 v3 v4 v5 => ?_)
    exact br_t (fd_ph_id hc hA eA eB P i) (nm_r (nI_1 i) (hw ((u1, u2, u3, u4, u5), (v1, v2, v3, v4, v5)) trivial))
theorem fd_w_a36 {post : Int32 → St3 → Prop} {c : Nat} {s z P kn rk l1 l2 kn' rk' l1' l2' : Int32} {A B a3 a4 A' B' b3 b4 : Nat → Int32} {L : List (Int32 × Int32)} (hc : c < 8) (hs : fd_ok s) (h0 : s ≠ 0) (hA : ∀ k, fd_ok (A k)) (hB : ∀ k, fd_ok (B k)) (hA' : ∀ k, fd_ok (A' k)) (hB' : ∀ k, fd_ok (B' k)) (eA : ∀ k, A' k = fd_mv (A k) c) (eB : ∀ k, B' k = B k ^^^ fd_ad (A k))
    (hL : fd_okL L) (con : fd_con L) (ho : fd_K kn rk a3 a4 L) (hq : fd_O P kn' rk' A' B' b3 b4 (L.map (fd_ph c))) (hz : (fd_sp L s = false ∧ z = -1) ∨ (∃ r, fd_sv L s r ∧ z = r ^^^ fd_ad s))
    (H : ∀ r m1 m2 c3 c4 r' m1' m2' d3 d4, post 1 (P, 0, r, m1, m2, A, B, c3, c4, P, 0, r', m1', m2', A', B', d3, d4)) : wL_alike_36 post (nI c) s (fd_sg L 8) (fd_mv s c) z P kn rk l1 l2 A B a3 a4 P kn' rk' l1' l2' A' B' b3 b4 := by
  have mp := fd_ph_map c L
  have m0 : fd_mv s c ≠ 0 := fun q => h0 ((fd_mv_z hs hc).mp q)
  unfold wL_alike_36
  refine fd_w_moved ?_
  refine fd_w_drops ?_
  refine fd_w_drops ?_
  refine br_t rfl ?_
  refine fd_w_known hA' hB' hq (fun k1 r1 s1 t1 x1 y1 K1 => ?_)
  refine br_t (fd_ph_sg hc hL mp).symm ?_
  refine fd_w_missing hA hB (Or.inr ho) (fun k2 r2 s2 t2 x2 y2 K2 => ?_)
  refine fd_w_missing hA' hB' (Or.inr K1) (fun k3 r3 s3 t3 x3 y3 K3 => ?_)
  refine br_t (by rw [fd_ph_rk hc L _ hL mp]) ?_
  refine fd_w_knownSums hA hB (Or.inr K2) (fun k4 r4 s4 t4 x4 y4 K4 => ?_)
  refine fd_w_knownSums hA' hB' (Or.inr K3) (fun k5 r5 s5 t5 x5 y5 K5 => ?_)
  refine br_t (by unfold fd_ks; rw [fd_ph_rk hc L _ hL mp]) ?_
  refine fd_w_sum1 hA' hB' (fd_mv_ok s c) (Or.inr K5) (fun r hr k6 r6 s6 t6 x6 y6 K6 => ?_)
  have er : r = z := by
    rw [fd_ph_sp hc L _ hL mp s hs] at hr
    rcases hz with ⟨q, e⟩ | ⟨w, hw, e⟩
    · rcases hr with ⟨_, e'⟩ | ⟨_, hv⟩
      · rw [e, e']
      · have t := fd_sv_sp _ _ _ hv
        rw [fd_ph_sp hc L _ hL mp s hs, q] at t
        exact absurd t (by simp)
    · rcases hr with ⟨q, _⟩ | ⟨_, hv⟩
      · have t := fd_sv_sp _ _ _ hw
        rw [q] at t
        exact absurd t (by simp)
      · rw [e]
        exact fd_con_e (fd_ph_con hc hL con) hv ((fd_ph_sv hc L hL s w hs).mpr hw)
  refine br_t er ?_
  refine fd_w_knownWith hA hB hs h0 (fun u1 u2 u3 u4 u5 => ?_)
  refine fd_w_knownWith hA' hB' (fd_mv_ok s c) m0 (fun v1 v2 v3 v4 v5 => ?_)
  refine br_t (by rw [fd_ph_cwE hc hA eA eB P hs]) ?_
  refine fd_w_enough hA hB (fun w1 w2 w3 w4 w5 => ?_)
  refine fd_w_enough hA' hB' (fun z1 z2 z3 z4 z5 => ?_)
  refine br_t (fd_ph_en hc hA eA eB P s) ?_
  exact fd_w_a136 hc hA hB hA' hB' eA eB H
theorem fd_w_alike {post : Int32 → St3 → Prop} {c : Nat} {s P kn rk l1 l2 kn' rk' l1' l2' : Int32} {A B a3 a4 A' B' b3 b4 : Nat → Int32} {L : List (Int32 × Int32)} (hc : c < 8) (hs : fd_ok s) (h0 : s ≠ 0) (hA : ∀ k, fd_ok (A k)) (hB : ∀ k, fd_ok (B k)) (eA : ∀ k, A' k = fd_mv (A k) c) (eB : ∀ k, B' k = B k ^^^ fd_ad (A k))
    (hL : fd_okL L) (con : fd_con L) (ho : fd_O P kn rk A B a3 a4 L) (hq : fd_O P kn' rk' A' B' b3 b4 (L.map (fd_ph c)))
    (H : ∀ r m1 m2 c3 c4 r' m1' m2' d3 d4, post 1 (P, 0, r, m1, m2, A, B, c3, c4, P, 0, r', m1', m2', A', B', d3, d4)) : wpL_alike post (P, kn, rk, l1, l2, A, B, a3, a4, P, kn', rk', l1', l2', A', B', b3, b4) (nI c) s := by
  have hA' : ∀ k, fd_ok (A' k) := fun k => by rw [eA k]; exact fd_mv_ok _ _
  have hB' : ∀ k, fd_ok (B' k) := fun k => by rw [eB k]; exact fd_okx (hB k) (fd_ad_ok _)
  unfold wpL_alike
  dsimp only
  refine fd_w_known hA hB ho (fun k1 r1 s1 t1 x1 y1 K1 => ?_)
  refine fd_w_sum1 hA hB hs (Or.inr K1) (fun r hr k2 r2 s2 t2 x2 y2 K2 => ?_)
  refine fd_w_moved ?_
  rcases hr with ⟨q, e⟩ | ⟨hr, hv⟩
  · subst e
    exact br_f (by decide) (fd_w_a36 hc hs h0 hA hB hA' hB' eA eB hL con K2 hq (Or.inl ⟨q, rfl⟩) H)
  · obtain ⟨n, hn, e⟩ := fd_okE hr
    have c1 : (0 : Int32) ≤ r := by
      rw [e]
      exact nI_pos' (by omega)
    exact br_t c1 (fd_w_added (fd_w_a36 hc hs h0 hA hB hA' hB' eA eB hL con K2 hq (Or.inr ⟨r, hv, rfl⟩) H))
end
section
/-! the law -/
theorem fd_set1 (y : Int32) : fd_ok (1 + ((y &&& 255) - (y &&& 255) / 255 * 255)) ∧ 1 + ((y &&& 255) - (y &&& 255) / 255 * 255) ≠ 0 := by
  obtain ⟨j, hj, e⟩ := pk_andE y (m := 255) 8 (by decide)
  have e1 : nI j - nI j / 255 * 255 = nI (j % 255) := pk_rem (a := j) (d := 255) (by omega) (by omega) (by omega)
  have e2 : (1 : Int32) + nI (j % 255) = nI (1 + j % 255) := nI_add 1 (j % 255)
  rw [e, e1, e2]
  exact ⟨fd_okn (by omega), nI_ne0 (by omega) (by omega)⟩
theorem fd_set2 (x y : Int32) : fd_ok (((1 : Int32) <<< ((x &&& 7) &&& 31)) ||| ((1 : Int32) <<< ((y &&& 7) &&& 31))) ∧ ((1 : Int32) <<< ((x &&& 7) &&& 31)) ||| ((1 : Int32) <<< ((y &&& 7) &&& 31)) ≠ 0 := by
  obtain ⟨i, hi, e⟩ := pk_andE x (m := 7) 3 (by decide)
  obtain ⟨j, hj, e'⟩ := pk_andE y (m := 7) 3 (by decide)
  rw [e, e']
  show fd_ok (fd_e i ||| fd_e j) ∧ fd_e i ||| fd_e j ≠ 0
  constructor
  · intro k hk
    rw [fd_bor, fd_oke (by omega) k hk, fd_oke (by omega) k hk]
    rfl
  · intro z
    have t : fd_bt (fd_e i ||| fd_e j) i = true := by rw [fd_bor, fd_be (by omega), decide_eq_true rfl, Bool.true_or]
    rw [z, fd_b0] at t
    exact absurd t (by simp)
/-- what holds between the two objects -/
def fd_G (c : Nat) (P : Int32) (A B A' B' : Nat → Int32) : Prop := (∀ k, fd_ok (A k)) ∧ (∀ k, fd_ok (B k)) ∧ (∀ k, A' k = fd_mv (A k) c) ∧ (∀ k, B' k = B k ^^^ fd_ad (A k)) ∧ fd_con (fd_bl A B P 10)
theorem fd_ks_inj : ∀ a, a < 11 → ∀ b, b < 11 → ((1 : Int32) <<< (nI a &&& 31)) - 1 = ((1 : Int32) <<< (nI b &&& 31)) - 1 → a = b := by decide +kernel
theorem fd_G_drop {c : Nat} {P : Int32} {A B A' B' : Nat → Int32} {k : Nat} (hk : k < 10) (G : fd_G c P A B A' B') : fd_G c (P &&& (fd_e k ^^^ (-1))) A B A' B' := by
  obtain ⟨g1, g2, g3, g4, g5⟩ := G
  refine ⟨g1, g2, g3, g4, fd_con_drop (fun i hi h => ?_) g5⟩
  rw [fd_bclr (by omega) (by omega)] at h
  cases t : fd_bt P i
  · rw [t] at h
    exact absurd h (by simp)
  · rfl
theorem fd_bl_2 (A B : Nat → Int32) (P x : Int32) (n : Nat) : fd_bl A B (P &&& x &&& P) n = fd_bl A B (P &&& x) n := by
  apply fd_bl_c
  intro i _
  refine ⟨rfl, rfl, ?_⟩
  rw [fd_band, fd_band]
  cases fd_bt P i <;> cases fd_bt x i <;> rfl
theorem fd_idE {A B : Nat → Int32} {P : Int32} {k : Nat} (hb : fd_bt P k = true) : fd_id A B P k = if fd_rk (fd_bl A B (P &&& (fd_e k ^^^ (-1))) 10) = fd_rk (fd_bl A B P 10) then 1 else 0 := by
  unfold fd_id fd_en
  rw [if_pos hb, fd_bl_2]
theorem fd_upd_A {A A' : Nat → Int32} {k : Nat} {s : Int32} {f : Int32 → Int32} (h : ∀ j, A' j = f (A j)) : ∀ j, upd A' k (f s) j = f (upd A k s j) := by
  intro j
  by_cases e : j = k
  · rw [e, pk_us, pk_us]
  · rw [pk_un e, pk_un e, h j]
theorem fd_upd_B {A B B' : Nat → Int32} {k : Nat} {s v : Int32} {f : Int32 → Int32} (h : ∀ j, B' j = B j ^^^ f (A j)) : ∀ j, upd B' k (v ^^^ f s) j = upd B k v j ^^^ f (upd A k s j) := by
  intro j
  by_cases e : j = k
  · rw [e, pk_us, pk_us, pk_us]
  · rw [pk_un e, pk_un e, pk_un e, h j]
theorem fd_upd_ok {A : Nat → Int32} {k : Nat} {s : Int32} (h : ∀ j, fd_ok (A j)) (hs : fd_ok s) : ∀ j, fd_ok (upd A k s j) := by
  intro j
  by_cases e : j = k
  · rw [e, pk_us]
    exact hs
  · rw [pk_un e]
    exact h j
theorem fd_G_take {c : Nat} {P s v : Int32} {A B A' B' : Nat → Int32} {k : Nat} (hk : k < 10) (hb : fd_bt P k = false) (hs : fd_ok s) (hv : fd_ok v) (con : fd_con ((s, v) :: fd_bl A B P 10)) (G : fd_G c P A B A' B') : fd_G c (P ||| fd_e k) (upd A k s) (upd B k v) (upd A' k (fd_mv s c)) (upd B' k (v ^^^ fd_ad s)) := by
  obtain ⟨g1, g2, g3, g4, g5⟩ := G
  exact ⟨fd_upd_ok g1 hs, fd_upd_ok g2 hv, fd_upd_A (f := fun x => fd_mv x c) g3, fd_upd_B (f := fd_ad) g4, fd_con_take hk (by omega) hb con⟩
theorem fd_w_281 {post : Int32 → Prop} {N : Nat} {xs : Nat → Int32} {J : Int32 → Int32 → Int32 → Int32 → Int32 → Int32 → (Nat → Int32) → (Nat → Int32) → (Nat → Int32) → (Nat → Int32) → Int32 → Int32 → Int32 → Int32 → Int32 → (Nat → Int32) → (Nat → Int32) → (Nat → Int32) → (Nat → Int32) → Prop} {c t kc ks : Nat} {x6 P kn rk l1 l2 kn' rk' l1' l2' : Int32} {A B a3 a4 A' B' b3 b4 : Nat → Int32} {L : List (Int32 × Int32)} (hc : c < 8)
    (G : fd_G c P A B A' B') (hL : fd_okL L) (con : fd_con L) (ho : fd_O P kn rk A B a3 a4 L) (hq : fd_O P kn' rk' A' B' b3 b4 (L.map (fd_ph c)))
    (HJ : ∀ r m1 m2 c3 c4 r' m1' m2' d3 d4, J (nI (t + 1)) P 0 r m1 m2 A B c3 c4 P 0 r' m1' m2' A' B' d3 d4) : wL_law_281 post N xs J (nI c) (nI t) x6 kc ks P kn rk l1 l2 A B a3 a4 P kn' rk' l1' l2' A' B' b3 b4 := by
  obtain ⟨g1, g2, g3, g4, g5⟩ := G
  have S := fd_set1 (x6 >>> ((5 : Int32) &&& 31))
  unfold wL_law_281
  refine ⟨by decide, fd_w_alike hc S.1 S.2 g1 g2 g3 g4 hL con ho hq (fun r m1 m2 c3 c4 r' m1' m2' d3 d4 => ?_)⟩
  exact br_f (by decide) (nm_r (nI_1 t) (HJ r m1 m2 c3 c4 r' m1' m2' d3 d4))
theorem fd_w_109 {post : Int32 → Prop} {N : Nat} {xs : Nat → Int32} {J : Int32 → Int32 → Int32 → Int32 → Int32 → Int32 → (Nat → Int32) → (Nat → Int32) → (Nat → Int32) → (Nat → Int32) → Int32 → Int32 → Int32 → Int32 → Int32 → (Nat → Int32) → (Nat → Int32) → (Nat → Int32) → (Nat → Int32) → Prop} {c t kc ks : Nat} {x5 x6 s P rk l1 l2 rk' l1' l2' : Int32} {A B a3 a4 A' B' b3 b4 : Nat → Int32} (hc : c < 8) (hs : fd_ok s) (h0 : s ≠ 0)
    (G : fd_G c P A B A' B')
    (HJ : ∀ P A B A' B', fd_G c P A B A' B' → ∀ r m1 m2 c3 c4 r' m1' m2' d3 d4, J (nI (t + 1)) P 0 r m1 m2 A B c3 c4 P 0 r' m1' m2' A' B' d3 d4) : wL_law_109 post N xs J (nI c) (nI t) x5 x6 s kc ks P 0 rk l1 l2 A B a3 a4 P 0 rk' l1' l2' A' B' b3 b4 := by
  have G' := G
  obtain ⟨hA, hB, eA, eB, con⟩ := G
  have hA' : ∀ k, fd_ok (A' k) := fun k => by rw [eA k]; exact fd_mv_ok _ _
  have hB' : ∀ k, fd_ok (B' k) := fun k => by rw [eB k]; exact fd_okx (hB k) (fd_ad_ok _)
  have eL : ∀ p, (fd_bl A B p 10).map (fd_ph c) = fd_bl A' B' p 10 := fun p => (fd_ph_bl eA eB 10).symm
  have hL : ∀ p, fd_okL (fd_bl A B p 10) := fun p => fd_okL_bl hA 10
  unfold wL_law_109
  refine nm_e (br_c (fun _ => ⟨by decide, ?_⟩) (fun _ => ?_))
  · obtain ⟨j, hj, e⟩ := pk_andE x6 (m := 255) 8 (by decide)
    have e1 : (x6 &&& 255) - (x6 &&& 255) / 10 * 10 = nI (j % 10) := by
      rw [e]
      exact pk_rem (a := j) (d := 10) (by omega) (by omega) (by omega)
    have hk : j % 10 < 10 := by omega
    generalize j % 10 = k at e1 hk
    refine nm_r e1 ?_
    refine fd_w_idle hk hA hB (fun u1 u2 u3 u4 u5 => ?_)
    refine fd_w_knownSums hA hB (Or.inl ⟨rfl, rfl⟩) (fun k1 r1 s1 t1 x1 y1 K1 => ?_)
    cases hb : fd_bt P k
    · refine fd_w_drop0 hk hb ?_
      refine fd_w_drop0 hk hb ?_
      refine fd_w_knownSums hA hB (Or.inr K1) (fun k2 r2 s2 t2 x2 y2 K2 => ?_)
      refine br_t rfl (br_t rfl ?_)
      exact br_t rfl (br_t rfl (fd_w_281 hc G' (hL P) con (Or.inr K2) (Or.inl ⟨rfl, eL P⟩) (HJ _ _ _ _ _ G')))
    · refine fd_w_drop1 hk hb ?_
      refine fd_w_drop1 hk hb ?_
      refine fd_w_knownSums hA hB (Or.inl ⟨rfl, rfl⟩) (fun k2 r2 s2 t2 x2 y2 K2 => ?_)
      have G2 := fd_G_drop hk G'
      have ie := fd_idE (A := A) (B := B) hb
      have last := fd_w_281 (post := post) (N := N) (xs := xs) (J := J) (t := t) (kc := kc) (ks := ks) (x6 := x6) (l1 := s2) (l2 := t2) (rk' := rk') (l1' := l1') (l2' := l2') (b3 := b3) (b4 := b4) hc G2 (hL _) G2.2.2.2.2 (Or.inr K2) (Or.inl ⟨rfl, eL _⟩) (HJ _ _ _ _ _ G2)
      refine br_t rfl (br_f (by decide) ?_)
      by_cases q : fd_rk (fd_bl A B (P &&& (fd_e k ^^^ (-1))) 10) = fd_rk (fd_bl A B P 10)
      · rw [if_pos q] at ie
        refine br_t (by unfold fd_ks; rw [q]) ?_
        exact br_t ie (br_f (by decide) last)
      · rw [if_neg q] at ie
        refine br_f (fun z => q (fd_ks_inj _ ?_ _ ?_ z)) ?_
        · exact Nat.lt_succ_of_le (fd_rk_bl _ _ _ 10)
        · exact Nat.lt_succ_of_le (fd_rk_bl _ _ _ 10)
        · exact br_t ie (br_f (by decide) last)
  · have hv := fd_ok255 (x6 >>> ((9 : Int32) &&& 31))
    generalize (x6 >>> ((9 : Int32) &&& 31)) &&& 255 = v at hv
    have hm := fd_mv_ok s c
    have m0 : fd_mv s c ≠ 0 := fun q => h0 ((fd_mv_z hs hc).mp q)
    have hw : fd_ok (v ^^^ fd_ad s) := fd_okx hv (fd_ad_ok s)
    have con' : fd_con (fd_bl A' B' P 10) := by
      rw [← eL P]
      exact fd_ph_con hc (hL P) con
    have sp' : fd_sp (fd_bl A' B' P 10) (fd_mv s c) = fd_sp (fd_bl A B P 10) s := by
      rw [← eL P]
      exact fd_ph_sp hc _ _ (hL P) (fd_ph_map c _) s hs
    have sv' : fd_sv (fd_bl A' B' P 10) (fd_mv s c) (v ^^^ fd_ad s) ↔ fd_sv (fd_bl A B P 10) s v := by
      rw [← eL P]
      exact fd_ph_sv hc _ (hL P) s v hs
    refine fd_w_moved ?_
    obtain ⟨k, h10, hf, hk⟩ := fd_first P 10
    by_cases k10 : k < 10
    · have hb := hk k10
      by_cases q : fd_sp (fd_bl A B P 10) s = true → fd_sv (fd_bl A B P 10) s v
      · refine fd_w_take_ok hA hB (Or.inl ⟨rfl, rfl⟩) con hs h0 hv k10 hf hb q (fun k1 r1 s1 t1 x1 y1 K1 => ?_)
        refine fd_w_added ?_
        refine fd_w_take_ok hA' hB' (Or.inl ⟨rfl, rfl⟩) con' hm m0 hw k10 hf hb (by rw [sp', sv']; exact q) (fun k2 r2 s2 t2 x2 y2 K2 => ?_)
        have con2 := fd_con_c con q
        have G2 := fd_G_take k10 hb hs hv con2 G'
        refine br_t rfl (br_f (nI_pos (by omega)) ?_)
        refine fd_w_sum1 G2.1 G2.2.1 hs (Or.inr K1) (fun r hr k3 r3 s3 t3 x3 y3 K3 => ?_)
        have svs : fd_sv ((s, v) :: fd_bl A B P 10) s v := by
          refine Or.inr ?_
          show fd_sv _ (s ^^^ s) (v ^^^ v)
          rw [Int32.xor_self, Int32.xor_self]
          exact fd_sv0 _
        have er : r = v := by
          rcases hr with ⟨z, _⟩ | ⟨_, z⟩
          · rw [fd_sv_sp _ _ _ svs] at z
            exact absurd z (by simp)
          · exact fd_con_e con2 z svs
        refine br_t er ?_
        refine fd_w_281 hc G2 (fd_okL_c hs (hL P)) con2 (Or.inr K3) (Or.inr ?_) (HJ _ _ _ _ _ G2)
        rw [List.map_cons, eL P]
        exact K2
      · have q1 : fd_sp (fd_bl A B P 10) s = true := by
          cases z : fd_sp (fd_bl A B P 10) s
          · exact absurd (fun z' => absurd (z.symm.trans z') (by simp)) q
          · rfl
        have q2 : ¬ fd_sv (fd_bl A B P 10) s v := fun z => q (fun _ => z)
        refine fd_w_take_ref hA hB (Or.inl ⟨rfl, rfl⟩) hs h0 hv k10 hf hb q1 q2 (fun k1 r1 s1 t1 x1 y1 K1 => ?_)
        refine fd_w_added ?_
        refine fd_w_take_ref hA' hB' (Or.inl ⟨rfl, rfl⟩) hm m0 hw k10 hf hb (by rw [sp']; exact q1) (by rw [sv']; exact q2) (fun k2 r2 s2 t2 x2 y2 K2 => ?_)
        refine br_t rfl (br_t (by decide) ?_)
        refine fd_w_281 hc G' (hL P) con (Or.inr K1) (Or.inr ?_) (HJ _ _ _ _ _ G')
        rw [eL P]
        exact K2
    · have e10 : k = 10 := by omega
      subst e10
      refine fd_w_take_full hs h0 hv hf ?_
      refine fd_w_added ?_
      refine fd_w_take_full hm m0 hw hf ?_
      refine br_t rfl (br_t (by decide) ?_)
      exact fd_w_281 hc G' (hL P) con (Or.inl ⟨rfl, rfl⟩) (Or.inl ⟨rfl, eL P⟩) (HJ _ _ _ _ _ G')
theorem fd_w_35 {N c kc ks : Nat} {xs : Nat → Int32} (hN : N ≤ 260) (hc : c < 8) : ∀ n t, N + 1 < n + t → t ≤ N + 1 → ∀ P A B A' B', fd_G c P A B A' B' → ∀ rk l1 l2 a3 a4 rk' l1' l2' b3 b4, wL_law_35 (fun r => r = 1) N xs (nI c) kc ks n (nI t) P 0 rk l1 l2 A B a3 a4 P 0 rk' l1' l2' A' B' b3 b4 := by
  intro n
  induction n with
  | zero => exact fun t h1 h2 => absurd h1 (by omega)
  | succ n ih =>
    intro t h1 h2 P A B A' B' G rk l1 l2 a3 a4 rk' l1' l2' b3 b4
    have go : ∀ x5 x6 s, fd_ok s → s ≠ 0 → t < N → wL_law_109 (fun r => r = 1) N xs (wL_law_35 (fun r => r = 1) N xs (nI c) kc ks n) (nI c) (nI t) x5 x6 s kc ks P 0 rk l1 l2 A B a3 a4 P 0 rk' l1' l2' A' B' b3 b4 :=
      fun x5 x6 s hs h0 ht => fd_w_109 hc hs h0 G (fun P A B A' B' G r m1 m2 c3 c4 r' m1' m2' d3 d4 => ih (t + 1) (by omega) (by omega) P A B A' B' G r m1 m2 c3 c4 r' m1' m2' d3 d4)
    refine pk_le N t (fun _ => rfl) (fun z => ⟨pk_in t N z, nm_e ⟨pk_in t N z, nm_e ⟨by decide, nm_e (nm_e (br_c (fun _ => ?_) (fun _ => ?_)))⟩⟩⟩)
    · exact go _ _ _ (fd_set2 _ _).1 (fd_set2 _ _).2 z
    · exact go _ _ _ (fd_set1 _).1 (fd_set1 _).2 z
theorem fd_bl_00 (A B : Nat → Int32) : ∀ n, fd_bl A B 0 n = [] := by
  intro n
  induction n with
  | zero => rfl
  | succ n ih => rw [fd_bl_f (fd_b0 n), ih]
theorem fd_w_15 {N c : Nat} {xs : Nat → Int32} (hN : N ≤ 260) (hc : c < 8) : wL_law_15 (fun r => r = 1) N xs (nI c) 0 0 := by
  have G : fd_G c 0 (fun _ => 0) (fun _ => 0) (fun _ => 0) (fun _ => 0) := by
    refine ⟨fun _ => fd_ok0, fun _ => fd_ok0, fun _ => (fd_mv_0 hc).symm, fun _ => ?_, ?_⟩
    · show (0 : Int32) = 0 ^^^ fd_ad 0
      rw [fd_ad_0, Int32.xor_zero]
    · rw [fd_bl_00]
      exact fun v h => h.2
  unfold wL_law_15
  refine ⟨by omega, by omega, 4, 36, by omega, by omega, ?_⟩
  refine ⟨by omega, by omega, by omega, by omega, by omega, by omega, by omega, by omega, ?_⟩
  refine ⟨by omega, by omega, 4, 36, by omega, by omega, ?_⟩
  refine ⟨by omega, by omega, by omega, by omega, by omega, by omega, by omega, by omega, ?_⟩
  exact ⟨N + 2, fd_w_35 hN hc (N + 2) 1 (by omega) (by omega) 0 _ _ _ _ G _ _ _ _ _ _ _ _ _ _⟩
theorem i_vc (xs : Nat → Int32) (L : Nat) (hL : L ≤ 260) : wpL_law (fun r => r = 1) L xs := by
  unfold wpL_law
  refine pk_le L 0 (fun _ => fd_w_15 (c := 3) hL (by omega)) (fun z => ⟨pk_in 0 L z, ?_⟩)
  obtain ⟨j, hj, e⟩ := pk_andE (xs (0 : Int32).toNatClampNeg) (m := 7) 3 (by decide)
  rw [e]
  exact fd_w_15 hL hj
end
